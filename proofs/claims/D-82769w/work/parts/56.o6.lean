/-! the Office: what is told, what is fed -/
section O6
variable {μ μ' : Mem} {σ σ' : Sg} {Λ : Lws} {Q : Res → Mem → Prop}
theorem TX.mv (h : TX σ Λ μ) (hR : RepX 0 σ' μ') (e : μ'.2 = μ.2) (eI : ∀ p i k, (p = 25 ∨ (27 ≤ p ∧ p ≤ 31)) → gI μ' p i k = gI μ p i k) (es : ∀ c i, (c = 39 ∨ c = 36 ∨ c = 37 ∨ (c = 34 ∧ i < 4) ∨ (c = 7 ∧ i = 4)) → σ' c i = σ c i) : TX σ' Λ μ' := by
  obtain ⟨h1, h2, h3, h4⟩ := h
  have gP' : ∀ p i k, gP μ' p i k = gP μ p i k := fun p i k => by unfold gP; rw [e]
  have kp : KP μ μ' := fun p hp => ⟨Nat.le_of_eq (by unfold gC; rw [e]), fun i _ => ⟨by unfold gL; rw [e], fun k => ⟨eI p i k hp, gP' p i k⟩⟩⟩
  refine ⟨?_, hR, h3.kp kp (es 34 0 (by omega)) (fun l => es 39 l (by omega)) (fun l _ => gP' _ _ _), h4.kp kp (es 34 1 (by omega)) (fun l => es 36 l (by omega)) (fun l => es 37 l (by omega)) (fun l _ => gP' _ _ _)⟩
  show XP (tn (σ' 34 1)) (tn (σ' 34 2)) (tn (σ' 34 3)) (tn (σ' 7 4)) (tn (σ' 34 0)) _
  rw [es 34 0 (by omega), es 34 1 (by omega), es 34 2 (by omega), es 34 3 (by omega), es 7 4 (by omega)]
  exact h1.of e
theorem tellS_ne {c i : Nat} (hc : c ≠ 0) : ∀ k, (tellS σ k).1 c i = σ c i
  | 0 => rfl
  | k + 1 => by
    rw [tellS]
    split
    · show up2 _ 0 k _ c i = _
      rw [up2_eq, if_neg (fun q => hc q.1)]
      exact tellS_ne hc k
    · exact tellS_ne hc k
theorem xl27 {a b : Nat} (hb : b < 80) : xl 0 27 (80 * a + b) = (14, a, b) := by
  show (14, (80 * a + b) / 80, (80 * a + b) % 80) = _
  rw [show (80 * a + b) / 80 = a by omega, show (80 * a + b) % 80 = b by omega]
theorem O_tell {a b : Int32} {s : Bool} (hI : TX σ Λ μ) (hC : CT σ) (hP : PD σ (tn (σ 34 2)) (tn (σ 34 1)) (tn (σ 34 3))) (h : ∀ r μ', TX (pTell σ a b s).1 Λ μ' → Fx μ μ' → XR [40, 38] (pTell σ a b s).2.1 (rI (pTell σ a b s).2.2) r → Q r μ') : Ct RX1 cX1_tell (7, some .int, [], false, rmm 8 3 18) [vr 1 0, vi a, vi b, vi (bI s)] μ Q := by
  refine Ct.of (ls := [some (vr 1 0), some (vi a), some (vi b), some (vi (bI s)), none, none, none]) rfl fun Γ C ad => ?_
  have hX := hI.1
  have hR := hI.2.1
  have np := hC.np
  have na := hC.na
  unfold pTell at h
  by_cases h1 : isP σ a
  · obtain ⟨i, hi, ei⟩ := hC.isP h1
    by_cases h2 : isP σ b
    · obtain ⟨j, hj, ej⟩ := hC.isP h2
      have i80 : i < 80 := by omega
      have j80 : j < 80 := by omega
      rw [if_neg (nn ⟨h1, h2⟩)] at h
      by_cases h3 : a = b
      · rw [if_pos h3] at h
        refine z_aload0 dX1_tell_0 (z_iload1 dX1_tell_1 (z_invV1 (md_X1_personAt _) cv_X1_201 rfl dX1_tell_2 rfl (Nat.le_of_ble_eq_true rfl) (Rm.ofB rfl) (X_personT hX hR h1 ei hi np (z_astore4 dX1_tell_5 (z_aload0 dX1_tell_7 (z_iload2 dX1_tell_8 (z_invV1 (md_X1_personAt _) cv_X1_201 rfl dX1_tell_9 rfl (Nat.le_of_ble_eq_true rfl) (Rm.ofB rfl) (X_personT hX hR h2 ej hj np (z_astore4 dX1_tell_12 (z_iload1 dX1_tell_14 (z_iload2 dX1_tell_15 (z_icmp_eq 23 dX1_tell_16 (by decide) (fun _ => z_iconst (v := 0) dX1_tell_23 (by decide) (z_invS1 (md_X1_must _) cs_X1_143 dX1_tell_24 rfl (Nat.le_of_ble_eq_true rfl) (Rm.ofB rfl) (X_mustF ?_))) (fun c => absurd (h3) c)))))))))))))
        exact fun μ' i q => ⟨rfl, h _ _ (hI.exc q) (Fx.exc q) XR.e2⟩
      · rw [if_neg h3] at h
        have ta : tn a = i := by rw [ei, tn_nI (by omega)]
        have tb : tn b = j := by rw [ej, tn_nI (by omega)]
        rw [ta, tb] at h
        dsimp only at h
        generalize hv : (if s = true then (2 : Int32) else 1) = v at h
        have R1 := hR.set (by decide) 27 (80 * i + j) v (sX_col (by decide))
        rw [xl27 j80] at R1
        have R2 := R1.set (by decide) 27 (80 * j + i) v (sX_col (by decide))
        rw [xl27 i80] at R2
        generalize hτ : up2 (up2 σ 27 (80 * i + j) v) 27 (80 * j + i) v = τ at h R2
        have eτ : ∀ c k, c ≠ 27 → τ c k = σ c k := fun c k hc => by rw [← hτ, up2_eq, if_neg (fun q => hc q.1), up2_eq, if_neg (fun q => hc q.1)]
        have lp : ∀ k, k ≤ tn (σ 34 2) → ∀ μ', RepX 0 (tellS τ k).1 μ' → Dif (fun p _ _ => p = 14 ∨ p = 34) μ μ' → Z RX1 cX1_tell (7, some .int, [], false, rmm 8 3 18) (Γ, C, μ, ad, Q) (3) (18) (μ') 67 [some (vr 1 0), some (vi a), some (vi b), some (vi (bI s)), some (vr 23 j), some (vi (tellS τ k).2), some (vi (nI k))] [] := by
          refine loopN (P := fun k => ∀ μ', RepX 0 (tellS τ k).1 μ' → Dif (fun p _ _ => p = 14 ∨ p = 34) μ μ' → Z RX1 cX1_tell (7, some .int, [], false, rmm 8 3 18) (Γ, C, μ, ad, Q) (3) (18) (μ') 67 [some (vr 1 0), some (vi a), some (vi b), some (vi (bI s)), some (vr 23 j), some (vi (tellS τ k).2), some (vi (nI k))] []) (tn (σ 34 2)) ?_ ?_
          · intro μ' hR' hD
            have e2 : (tellS τ (tn (σ 34 2))).1 34 2 = nI (tn (σ 34 2)) := by rw [tellS_ne (by decide), eτ 34 2 (by decide)]; exact hC.2.2.1.1
            refine z_iload6 dX1_tell_67 (z_aload0 dX1_tell_69 (z_getIv fl_X1_122 dX1_tell_70 rfl rfl (hR'.t 2 (by decide)) (z_icmp_ge 153 dX1_tell_73 (by decide) (fun _ => z_iload5 dX1_tell_153 (z_ireturn dX1_tell_155 rfl (Nat.le_of_ble_eq_true rfl) (Nat.le_of_ble_eq_true rfl) ?_)) (fun c => absurd (lpt e2) c))))
            refine h _ _ (hI.mv hR' hD.1 (fun p i k hp => hD.2 p i k (by omega)) (fun c i hc => ?_)) (fun p i k hp => ⟨hD.2 p i k (by omega), hD.P p i k⟩) XR.ok
            rw [tellS_ne (by omega), eτ c i (by omega)]
          · intro k hk ih μ' hR' hD
            have hX' := hX.of hD.1
            have k120 : k < 120 := by omega
            have e2 : (tellS τ k).1 34 2 = nI (tn (σ 34 2)) := by rw [tellS_ne (by decide), eτ 34 2 (by decide)]; exact hC.2.2.1.1
            obtain ⟨p, hp1, hp2⟩ := hP.2.2.2.1 k hk
            have e12 : (tellS τ k).1 12 k = nI p := by rw [tellS_ne (by decide), eτ 12 k (by decide)]; exact hp2
            have e1 : (tellS τ k).1 34 1 = nI (tn (σ 34 1)) := by rw [tellS_ne (by decide), eτ 34 1 (by decide)]; exact hC.2.1.1
            rw [tellS] at ih
            refine z_iload6 dX1_tell_67 (z_aload0 dX1_tell_69 (z_getIv fl_X1_122 dX1_tell_70 rfl rfl (hR'.t 2 (by decide)) (z_icmp_ge 153 dX1_tell_73 (by decide) (fun c => absurd c (lpf e2 hk (by omega))) (fun _ => z_aload0 dX1_tell_76 (z_getP fl_X1_42 dX1_tell_77 rfl rfl (hX'.f1 5 (by decide)) (z_getP fl_X1_232 dX1_tell_80 rfl rfl (hX'.f4 _ (by decide)) (z_iload6 dX1_tell_83 (z_aald dX1_tell_85 rfl (by decide) rfl ⟨rfl, k120, Nat.le_of_ble_eq_true rfl⟩ (hX'.mo hk) (z_getIv fl_X1_236 dX1_tell_86 rfl rfl (hR'.q 0 _ (by decide)) (z_iconst (v := 3) dX1_tell_89 (by decide) (z_icmp_eq 96 dX1_tell_90 (by decide) (fun c_90 => ?_) (fun c_90 => ?_))))))))))))
            · rw [if_pos c_90] at ih
              dsimp only at ih
              have R3 : RepX 0 (up2 (tellS τ k).1 0 k (chkF (tellS τ k).1 k)) (sI μ' 34 k 0 (chkF (tellS τ k).1 k)) := hR'.set (by decide) 0 k _ (sX_col (by decide))
              have g0 : gI (sI μ' 34 k 0 (chkF (tellS τ k).1 k)) 34 k 0 = chkF (tellS τ k).1 k := by rw [gI_sI, if_pos ⟨rfl, rfl, rfl⟩]
              refine z_aload0 dX1_tell_96 (z_getP fl_X1_42 dX1_tell_97 rfl rfl (hX'.f1 5 (by decide)) (z_getP fl_X1_232 dX1_tell_100 rfl rfl (hX'.f4 _ (by decide)) (z_iload6 dX1_tell_103 (z_aald dX1_tell_105 rfl (by decide) rfl ⟨rfl, k120, Nat.le_of_ble_eq_true rfl⟩ (hX'.mo hk) (z_aload0 dX1_tell_106 (z_aload0 dX1_tell_107 (z_getP fl_X1_35 dX1_tell_108 rfl rfl (hX'.f1 4 (by decide)) (z_iload6 dX1_tell_111 (z_aald dX1_tell_113 rfl (by decide) rfl ⟨rfl, k120, Nat.le_of_ble_eq_true rfl⟩ (hX'.as hk) (z_invV1 (md_X1_behindCheck _) cv_X1_241 rfl dX1_tell_114 rfl (Nat.le_of_ble_eq_true rfl) (Rm.ofB rfl) (X_behind hX' hR' hk e12 hp1 e1 np (z_putI fl_X1_236 dX1_tell_117 rfl rfl ⟨rfl, rfl⟩ (z_iload5 dX1_tell_120 (z_aload0 dX1_tell_122 (z_getP fl_X1_42 dX1_tell_123 rfl rfl (hX'.f1 5 (by decide)) (z_getP fl_X1_232 dX1_tell_126 rfl rfl (hX'.f4 _ (by decide)) (z_iload6 dX1_tell_129 (z_aald dX1_tell_131 rfl (by decide) rfl ⟨rfl, k120, Nat.le_of_ble_eq_true rfl⟩ (hX'.mo hk) (z_getIv fl_X1_236 dX1_tell_132 rfl rfl (g0) (z_iconst (v := 3) dX1_tell_135 (by decide) (z_icmp_ne 143 dX1_tell_136 (by decide) (fun c_136 => ?_) (fun c_136 => ?_))))))))))))))))))))))
              · rw [if_neg c_136] at ih
                refine z_iconst (v := 1) dX1_tell_143 (by decide) (z_iadd dX1_tell_144 (z_istore5 dX1_tell_145 (z_iinc6 dX1_tell_147 (inc1 k) (z_goto 67 dX1_tell_150 (by decide) ?_))))
                exact ih _ R3 (hD.tr (Dif.sI (Or.inr rfl)))
              · rw [if_pos c_136] at ih
                refine z_iconst (v := 0) dX1_tell_139 (by decide) (z_goto 144 dX1_tell_140 (by decide) (z_iadd dX1_tell_144 (z_istore5 dX1_tell_145 (z_iinc6 dX1_tell_147 (inc1 k) (z_goto 67 dX1_tell_150 (by decide) ?_)))))
                exact ih _ R3 (hD.tr (Dif.sI (Or.inr rfl)))
            · rw [if_neg c_90] at ih
              refine z_goto 147 dX1_tell_93 (by decide) (z_iinc6 dX1_tell_147 (inc1 k) (z_goto 67 dX1_tell_150 (by decide) ?_))
              exact ih μ' hR' hD
        have fin : ∀ x : Int32, x.toInt8.toInt32.toInt8.toInt32 = tX v → x.toInt8.toInt32.toInt8.toInt32.toInt8.toInt32 = tX v → Z RX1 cX1_tell (7, some .int, [], false, rmm 8 3 18) (Γ, C, μ, ad, Q) (3) (18) (μ) 43 [some (vr 1 0), some (vi a), some (vi b), some (vi (bI s)), some (vr 23 j), none, none] [vi x, vi b, vr 14 i] := by
          intro x ex ex2
          have g1 : gI (sI μ 14 i j (x.toInt8.toInt32.toInt8.toInt32)) 14 i j = x.toInt8.toInt32.toInt8.toInt32 := by rw [gI_sI, if_pos ⟨rfl, rfl, rfl⟩]
          refine z_i2b dX1_tell_43 (z_bast dX1_tell_44 rfl ⟨ej, j80, Nat.le_of_ble_eq_true rfl⟩ (z_aload0 dX1_tell_45 (z_getP fl_X1_30 dX1_tell_46 rfl rfl (hX.f1 3 (by decide)) (z_iload2 dX1_tell_49 (z_aald dX1_tell_50 rfl (by decide) rfl ⟨ej, j80, Nat.le_of_ble_eq_true rfl⟩ (hX.tl j80) (z_iload1 dX1_tell_51 (z_aload0 dX1_tell_52 (z_getP fl_X1_30 dX1_tell_53 rfl rfl (hX.f1 3 (by decide)) (z_iload1 dX1_tell_56 (z_aald dX1_tell_57 rfl (by decide) rfl ⟨ei, i80, Nat.le_of_ble_eq_true rfl⟩ (hX.tl i80) (z_iload2 dX1_tell_58 (z_baldv dX1_tell_59 rfl ⟨ej, j80, Nat.le_of_ble_eq_true rfl⟩ (g1) (z_bast dX1_tell_60 rfl ⟨ei, i80, Nat.le_of_ble_eq_true rfl⟩ (z_iconst (v := 0) dX1_tell_61 (by decide) (z_istore5 dX1_tell_62 (z_iconst (v := 0) dX1_tell_64 (by decide) (z_istore6 dX1_tell_65 ?_)))))))))))))))))
          rw [ex2, ex]
          exact lp 0 (Nat.zero_le _) _ R2 ((Dif.sI (Or.inl rfl)).tr (Dif.sI (Or.inl rfl)))
        cases s with
        | true =>
          have ev : v = 2 := hv.symm
          refine z_aload0 dX1_tell_0 (z_iload1 dX1_tell_1 (z_invV1 (md_X1_personAt _) cv_X1_201 rfl dX1_tell_2 rfl (Nat.le_of_ble_eq_true rfl) (Rm.ofB rfl) (X_personT hX hR h1 ei hi np (z_astore4 dX1_tell_5 (z_aload0 dX1_tell_7 (z_iload2 dX1_tell_8 (z_invV1 (md_X1_personAt _) cv_X1_201 rfl dX1_tell_9 rfl (Nat.le_of_ble_eq_true rfl) (Rm.ofB rfl) (X_personT hX hR h2 ej hj np (z_astore4 dX1_tell_12 (z_iload1 dX1_tell_14 (z_iload2 dX1_tell_15 (z_icmp_eq 23 dX1_tell_16 (by decide) (fun c => absurd c (h3)) (fun _ => z_iconst (v := 1) dX1_tell_19 (by decide) (z_goto 24 dX1_tell_20 (by decide) (z_invS1 (md_X1_must _) cs_X1_143 dX1_tell_24 rfl (Nat.le_of_ble_eq_true rfl) (Rm.ofB rfl) (X_mustT (z_aload0 dX1_tell_27 (z_getP fl_X1_30 dX1_tell_28 rfl rfl (hX.f1 3 (by decide)) (z_iload1 dX1_tell_31 (z_aald dX1_tell_32 rfl (by decide) rfl ⟨ei, i80, Nat.le_of_ble_eq_true rfl⟩ (hX.tl i80) (z_iload2 dX1_tell_33 (z_iload3 dX1_tell_34 (z_if_eq 42 dX1_tell_35 (by decide) (fun c => absurd c (n10)) (fun _ => z_iconst (v := 1) dX1_tell_38 (by decide) (z_goto 43 dX1_tell_39 (by decide) ?_)))))))))))))))))))))))))
          exact fin 1 (by rw [ev]; rfl) (by rw [ev]; rfl)
        | false =>
          have ev : v = 1 := hv.symm
          refine z_aload0 dX1_tell_0 (z_iload1 dX1_tell_1 (z_invV1 (md_X1_personAt _) cv_X1_201 rfl dX1_tell_2 rfl (Nat.le_of_ble_eq_true rfl) (Rm.ofB rfl) (X_personT hX hR h1 ei hi np (z_astore4 dX1_tell_5 (z_aload0 dX1_tell_7 (z_iload2 dX1_tell_8 (z_invV1 (md_X1_personAt _) cv_X1_201 rfl dX1_tell_9 rfl (Nat.le_of_ble_eq_true rfl) (Rm.ofB rfl) (X_personT hX hR h2 ej hj np (z_astore4 dX1_tell_12 (z_iload1 dX1_tell_14 (z_iload2 dX1_tell_15 (z_icmp_eq 23 dX1_tell_16 (by decide) (fun c => absurd c (h3)) (fun _ => z_iconst (v := 1) dX1_tell_19 (by decide) (z_goto 24 dX1_tell_20 (by decide) (z_invS1 (md_X1_must _) cs_X1_143 dX1_tell_24 rfl (Nat.le_of_ble_eq_true rfl) (Rm.ofB rfl) (X_mustT (z_aload0 dX1_tell_27 (z_getP fl_X1_30 dX1_tell_28 rfl rfl (hX.f1 3 (by decide)) (z_iload1 dX1_tell_31 (z_aald dX1_tell_32 rfl (by decide) rfl ⟨ei, i80, Nat.le_of_ble_eq_true rfl⟩ (hX.tl i80) (z_iload2 dX1_tell_33 (z_iload3 dX1_tell_34 (z_if_eq 42 dX1_tell_35 (by decide) (fun _ => z_iconst (v := 2) dX1_tell_42 (by decide) ?_) (fun c => absurd (rfl) c))))))))))))))))))))))))
          exact fin 2 (by rw [ev]; rfl) (by rw [ev]; rfl)
    · rw [if_pos (fun q => h2 q.2)] at h
      refine z_aload0 dX1_tell_0 (z_iload1 dX1_tell_1 (z_invV1 (md_X1_personAt _) cv_X1_201 rfl dX1_tell_2 rfl (Nat.le_of_ble_eq_true rfl) (Rm.ofB rfl) (X_personT hX hR h1 ei hi np (z_astore4 dX1_tell_5 (z_aload0 dX1_tell_7 (z_iload2 dX1_tell_8 (z_invV1 (md_X1_personAt _) cv_X1_201 rfl dX1_tell_9 rfl (Nat.le_of_ble_eq_true rfl) (Rm.ofB rfl) (X_personF hR h2 ?_))))))))
      exact fun μ' i q => ⟨rfl, h _ _ (hI.exc q) (Fx.exc q) XR.e1⟩
  · rw [if_pos (fun q => h1 q.1)] at h
    refine z_aload0 dX1_tell_0 (z_iload1 dX1_tell_1 (z_invV1 (md_X1_personAt _) cv_X1_201 rfl dX1_tell_2 rfl (Nat.le_of_ble_eq_true rfl) (Rm.ofB rfl) (X_personF hR h1 ?_)))
    exact fun μ' i q => ⟨rfl, h _ _ (hI.exc q) (Fx.exc q) XR.e1⟩
end O6
