/-! the Office: feeding -/
section O7
variable {μ μ' : Mem} {σ σ' : Sg} {Λ : Lws} {Q : Res → Mem → Prop} {np na nl nb ng : Nat}
def SF : Nat → Nat → Nat → Prop := fun p _ k => p = 5 ∨ (p = 2 ∧ k = 7)
def x8 (t : Nat) : Int32 := if t = 4 then -8 else nI (24 - 8 * t)
theorem X_four {v : Int32} {j s : Nat} {f : Nat → Int32} (hX : XP np na nl nb ng μ) (hR : RepX 0 (up2 (feedS σ f j) 34 15 (nI (s + j))) μ) (hs : s = tn (σ 34 15)) (hj : j % 4 = 0) (hv : f (j / 4) = v) (hb : s + j + 4 ≤ 400) (h : ∀ μ', RepX 0 (up2 (feedS σ f (j + 4)) 34 15 (nI (s + (j + 4)))) μ' → Dif SF μ μ' → Q rV μ') : Ct RX1 cX1_four (3, none, [], false, rmm 1 0 0) [vr 1 0, vi v] μ Q := by
  refine Ct.of (ls := [some (vr 1 0), some (vi v), none]) rfl fun Γ C ad => ?_
  have lp : ∀ t, t ≤ 4 → ∀ μ', RepX 0 (up2 (feedS σ f (j + t)) 34 15 (nI (s + (j + t)))) μ' → Dif SF μ μ' → Z RX1 cX1_four (3, none, [], false, rmm 1 0 0) (Γ, C, μ, ad, Q) (0) (0) (μ') 3 [some (vr 1 0), some (vi v), some (vi (x8 t))] [] := by
    refine loopN (P := fun t => ∀ μ', RepX 0 (up2 (feedS σ f (j + t)) 34 15 (nI (s + (j + t)))) μ' → Dif SF μ μ' → Z RX1 cX1_four (3, none, [], false, rmm 1 0 0) (Γ, C, μ, ad, Q) (0) (0) (μ') 3 [some (vr 1 0), some (vi v), some (vi (x8 t))] []) 4 ?_ ?_
    · intro μ' hR' hD
      refine z_iload2 dX1_four_3 (z_if_lt 45 dX1_four_4 (by decide) (fun _ => z_return dX1_four_45 rfl (Nat.le_of_ble_eq_true rfl) (Nat.le_of_ble_eq_true rfl) ?_) (fun c => absurd ((by decide)) c))
      exact h μ' hR' hD
    · intro t ht ih μ' hR' hD
      have hX' := hX.of hD.1
      have e15 : gI μ' 2 0 7 = nI (s + (j + t)) := hR'.sz
      have nlt : ¬ x8 t < 0 := by
        have : t = 0 ∨ t = 1 ∨ t = 2 ∨ t = 3 := by omega
        rcases this with rfl | rfl | rfl | rfl <;> decide
      have einc : x8 t + Int32.ofInt (-8) = x8 (t + 1) := by
        have : t = 0 ∨ t = 1 ∨ t = 2 ∨ t = 3 := by omega
        rcases this with rfl | rfl | rfl | rfl <;> decide
      have e8 : x8 t = nI (24 - 8 * t) := if_neg (by omega)
      have eb : feedB f (j + t) = (v >>> (x8 t &&& 31)).toInt8.toInt32 := by
        unfold feedB byT
        rw [show (j + t) / 4 = j / 4 by omega, show (j + t) % 4 = t by omega, hv, e8]
      have R1 : RepX 0 (up2 (up2 (feedS σ f (j + t)) 34 15 (nI (s + (j + t)))) 35 (s + (j + t)) (feedB f (j + t))) (sI μ' 5 0 (s + (j + t)) (feedB f (j + t))) := hR'.set (by decide) 35 _ _ (sX_col (by decide))
      have R2 : RepX 0 _ (sI (sI μ' 5 0 (s + (j + t)) (feedB f (j + t))) 2 0 7 (nI (s + (j + t)) + 1)) := R1.set (by decide) 34 15 (nI (s + (j + t)) + 1) (show (15 : Nat) < 16 by decide)
      have g2 : ∀ y, gI (sI μ' 5 0 (s + (j + t)) y) 2 0 7 = nI (s + (j + t)) := fun y => by rw [gI_sI, if_neg (by simp)]; exact e15
      refine z_iload2 dX1_four_3 (z_if_lt 45 dX1_four_4 (by decide) (fun c => absurd c (nlt)) (fun _ => z_aload0 dX1_four_7 (z_getP fl_X1_10 dX1_four_8 rfl rfl (hX'.f1 0 (by decide)) (z_getP fl_X1_125 dX1_four_11 rfl rfl (hX'.f2 0 (by decide)) (z_aload0 dX1_four_14 (z_getP fl_X1_10 dX1_four_15 rfl rfl (hX'.f1 0 (by decide)) (z_getIv fl_X1_129 dX1_four_18 rfl rfl (e15) (z_iload1 dX1_four_21 (z_iload2 dX1_four_22 (z_ishr dX1_four_23 (z_i2b dX1_four_24 (z_bast dX1_four_25 rfl ⟨rfl, (show s + (j + t) < 400 by omega), Nat.le_of_ble_eq_true rfl⟩ (z_aload0 dX1_four_26 (z_getP fl_X1_10 dX1_four_27 rfl rfl (hX'.f1 0 (by decide)) (z_dupa dX1_four_30 (z_getIv fl_X1_129 dX1_four_31 rfl rfl (g2 _) (z_iconst (v := 1) dX1_four_34 (by decide) (z_iadd dX1_four_35 (z_putI fl_X1_129 dX1_four_36 rfl rfl ⟨rfl, rfl⟩ (z_iinc2 dX1_four_39 (einc) (z_goto 3 dX1_four_42 (by decide) ?_)))))))))))))))))))))
      rw [byT_byT, ← eb]
      refine ih _ (R2.cgs fun c i hs' => ?_) ((hD.tr (Dif.sI (Or.inl rfl))).tr (Dif.sI (Or.inr ⟨rfl, rfl⟩)))
      rw [← Nat.add_assoc j t 1, feedS, ← hs, nI_1, Nat.add_assoc s]
      simp only [up2_eq]
      grind
  refine z_bipush (v := 24) dX1_four_0 (by decide) (z_istore2 dX1_four_2 ?_)
  exact lp 0 (by decide) μ hR Dif.rf
theorem feedS_nx {f : Nat → Int32} {c i : Nat} (hc : c ≠ 35) : ∀ k, feedS σ f k c i = σ c i
  | 0 => rfl
  | k + 1 => by rw [feedS, up2_eq, if_neg (fun q => hc q.1)]; exact feedS_nx hc k
theorem Dif.F {a b : Mem} (h : Dif SF a b) : ∀ p i k, (p = 25 ∨ (27 ≤ p ∧ p ≤ 31)) → gI b p i k = gI a p i k := fun p i k hp => h.2 p i k (by unfold SF; omega)
theorem O_feed {a b c d e : Int32} (hI : TX σ Λ μ) (hC : CT σ) (h : ∀ r μ', TX (pFeed σ a b c d e).1 Λ μ' → Fx μ μ' → r = rI (pFeed σ a b c d e).2.2 → Q r μ') : Ct RX1 cX1_feed (6, some .int, [], false, rmm 2 0 0) [vr 1 0, vi a, vi b, vi c, vi d, vi e] μ Q := by
  refine Ct.of (ls := [some (vr 1 0), some (vi a), some (vi b), some (vi c), some (vi d), some (vi e)]) rfl fun Γ C ad => ?_
  have hX := hI.1
  have hR := hI.2.1
  have sz := hC.sz
  unfold pFeed at h
  obtain ⟨s, hs, es⟩ : ∃ s, s = tn (σ 34 15) ∧ σ 34 15 = nI s := ⟨_, rfl, hC.2.2.2.2.2.1⟩
  have e20 : σ 34 15 + 20 = nI (s + 20) := by rw [es, show (20 : Int32) = nI 20 from rfl, nI_add]
  by_cases h1 : 400 < σ 34 15 + 20
  · rw [if_pos h1] at h
    refine z_aload0 dX1_feed_0 (z_getP fl_X1_10 dX1_feed_1 rfl rfl (hX.f1 0 (by decide)) (z_getIv fl_X1_129 dX1_feed_4 rfl rfl (hR.sz) (z_bipush (v := 20) dX1_feed_7 (by decide) (z_iadd dX1_feed_9 (z_sipush (v := 400) dX1_feed_10 (by decide) (z_icmp_le 18 dX1_feed_13 (by decide) (fun c => absurd c (Int32.not_le.mpr h1)) (fun _ => z_iconst (v := (-1)) dX1_feed_16 (by decide) (z_ireturn dX1_feed_17 rfl (Nat.le_of_ble_eq_true rfl) (Nat.le_of_ble_eq_true rfl) ?_))))))))
    exact h _ _ hI Fx.rf rfl
  · rw [if_neg h1] at h
    have h2 : s + 20 ≤ 400 := by
      have := Int32.not_lt.mp h1
      rw [e20, show (400 : Int32) = nI 400 from rfl] at this
      exact (nI_leI (by omega) (by decide)).mp this
    have R0 : RepX 0 (up2 (feedS σ (fiv a b c d e) 0) 34 15 (nI (s + 0))) μ := hR.cgs fun c i _ => by
      rw [up2_eq]
      split
      · rename_i q; rw [q.1, q.2, es]; rfl
      · rfl
    refine z_aload0 dX1_feed_0 (z_getP fl_X1_10 dX1_feed_1 rfl rfl (hX.f1 0 (by decide)) (z_getIv fl_X1_129 dX1_feed_4 rfl rfl (hR.sz) (z_bipush (v := 20) dX1_feed_7 (by decide) (z_iadd dX1_feed_9 (z_sipush (v := 400) dX1_feed_10 (by decide) (z_icmp_le 18 dX1_feed_13 (by decide) (fun _ => z_aload0 dX1_feed_18 (z_iload1 dX1_feed_19 (z_invV1 (md_X1_four _) cv_X1_132 rfl dX1_feed_20 rfl (Nat.le_of_ble_eq_true rfl) (Rm.ofB rfl) (X_four (j := 0) hX R0 hs rfl rfl (by omega) (fun μ1 R1 D1 => ?_))))) (fun c => absurd (Int32.not_lt.mp h1) c)))))))
    refine z_aload0 dX1_feed_23 (z_iload2 dX1_feed_24 (z_invV1 (md_X1_four _) cv_X1_132 rfl dX1_feed_25 rfl (Nat.le_of_ble_eq_true rfl) (Rm.ofB rfl) (X_four (j := 4) (hX.of D1.1) R1 hs rfl rfl (by omega) (fun μ2 R2 D2 => ?_))))
    have D2' := D1.tr D2
    refine z_aload0 dX1_feed_28 (z_iload3 dX1_feed_29 (z_invV1 (md_X1_four _) cv_X1_132 rfl dX1_feed_30 rfl (Nat.le_of_ble_eq_true rfl) (Rm.ofB rfl) (X_four (j := 8) (hX.of D2'.1) R2 hs rfl rfl (by omega) (fun μ3 R3 D3 => ?_))))
    have D3' := D2'.tr D3
    refine z_aload0 dX1_feed_33 (z_iload4 dX1_feed_34 (z_invV1 (md_X1_four _) cv_X1_132 rfl dX1_feed_36 rfl (Nat.le_of_ble_eq_true rfl) (Rm.ofB rfl) (X_four (j := 12) (hX.of D3'.1) R3 hs rfl rfl (by omega) (fun μ4 R4 D4 => ?_))))
    have D4' := D3'.tr D4
    refine z_aload0 dX1_feed_39 (z_iload5 dX1_feed_40 (z_invV1 (md_X1_four _) cv_X1_132 rfl dX1_feed_42 rfl (Nat.le_of_ble_eq_true rfl) (Rm.ofB rfl) (X_four (j := 16) (hX.of D4'.1) R4 hs rfl rfl (by omega) (fun μ5 R5 D5 => ?_))))
    have D5' := D4'.tr D5
    refine z_aload0 dX1_feed_45 (z_getP fl_X1_10 dX1_feed_46 rfl rfl ((hX.of D5'.1).f1 0 (by decide)) (z_getIv fl_X1_129 dX1_feed_49 rfl rfl (R5.sz) (z_ireturn dX1_feed_52 rfl (Nat.le_of_ble_eq_true rfl) (Nat.le_of_ble_eq_true rfl) ?_)))
    rw [e20] at h
    refine h _ _ (hI.mv R5 D5'.1 D5'.F (fun c i hc => ?_)) (fun p i k hp => ⟨D5'.2 p i k (by unfold SF; omega), D5'.P p i k⟩) rfl
    dsimp only
    rw [up2_eq, if_neg (by omega), feedS_nx (by omega)]
end O7
