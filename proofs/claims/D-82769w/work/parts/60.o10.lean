/-! the Office: what would be missed -/
theorem dayN_70 (m : Bool) (σ : Sg) (r : Int32) : ∀ k, dayN m σ r k 7 0 = σ 7 0 + nI k
  | 0 => (Int32.add_zero _).symm
  | k + 1 => by rw [dayN, day_70, dayN_70 m σ r k, Int32.add_assoc, nI_1]
theorem le_1000 {x : Int32} {k : Nat} (h0 : 0 ≤ x) (h : x ≤ 1000) (hk : k ≤ 60) : x + nI k < 2000 ∧ 0 ≤ x + nI k := by
  have a1 := ti_le.mp h0
  have a2 := ti_le.mp h
  have z0 : (0 : Int32).toInt = 0 := rfl
  have z1 : (1000 : Int32).toInt = 1000 := rfl
  have z2 : (2000 : Int32).toInt = 2000 := rfl
  have a3 := nI_toInt (n := k) (by omega)
  rw [ti_lt, ti_le, ti_add (by omega) (by omega)]
  omega
theorem dy_dayN (m : Bool) {σ : Sg} (h : DY σ) (h1 : σ 7 0 ≤ 1000) (r : Int32) : ∀ k, k ≤ 60 → DY (dayN m σ r k)
  | 0, _ => h
  | k + 1, hk => by
    rw [dayN]
    exact dy_day m (dy_dayN m h h1 r k (by omega)) (by rw [dayN_70]; exact (le_1000 h.1.1 h1 (by omega)).1) r
section O10
variable {μ μ' : Mem} {σ σ' : Sg} {Λ : Lws} {Q : Res → Mem → Prop}
def SU : Nat → Nat → Nat → Prop := fun p i _ => p = 35 ∨ (p = 4 ∧ i = 1) ∨ p = 20
def TU : Nat → Prop := fun p => p = 35 ∨ p = 16
theorem SZ_SU {p i k : Nat} (h : SZ 1 p i k) : SU p i k := by unfold SZ SY at h; unfold SU; omega
theorem TX.tri (h : TX σ Λ μ) (hF : FX SU TU μ μ') (hX : XPs σ μ') : TX σ Λ μ' := by
  have kp : KP μ μ' := KP.fx hF (fun p i k hp => by unfold SU; omega) (fun p hp => by unfold TU; omega)
  exact ⟨hX, h.2.1.sc hF (fun p i k q => by unfold SU at q; unfold SC; omega), h.2.2.1.kp kp rfl (fun _ => rfl) (fun l _ => hF.P l 2 (by unfold TU; omega)), h.2.2.2.kp kp rfl (fun _ => rfl) (fun _ => rfl) (fun l _ => hF.P l 3 (by unfold TU; omega))⟩
theorem O_missed {r x : Int32} (hI : TX σ Λ μ) (hC : CT σ) (hP : PD σ (tn (σ 34 2)) (tn (σ 34 1)) (tn (σ 34 3))) (hD : DY σ) (hT : σ 7 0 ≤ 1000) (hB : SB σ (tn (σ 34 2))) (hL : LB σ) (h6 : ∀ a, σ 6 a = 0 ∨ σ 6 a = 1) (h : ∀ v μ', TX (pMissed false σ r x).1 Λ μ' → Fx μ μ' → XR [38] (pMissed false σ r x).2.1 (rI (pMissed false σ r x).2.2) v → Q v μ') : Ct RX1 cX1_missed (6, some .int, [], false, rmm 8 9121 36966) [vr 1 0, vi r, vi x] μ Q := by
  refine Ct.of (ls := [some (vr 1 0), some (vi r), some (vi x), none, none, none]) rfl fun Γ C ad => ?_
  have hX := hI.1
  have hR := hI.2.1
  have na := hC.na
  unfold pMissed at h
  have no : ¬ ((0 ≤ r ∧ r ≤ 2) ∧ (0 ≤ x ∧ x ≤ 60)) → Z RX1 cX1_missed (6, some .int, [], false, rmm 8 9121 36966) (Γ, C, μ, ad, Q) (0) (0) (μ) 23 [some (vr 1 0), some (vi r), some (vi x), none, none, none] [] := by
    intro q
    rw [if_pos q] at h
    refine z_iconst (v := 0) dX1_missed_23 (by decide) (z_invS1 (md_X1_must _) cs_X1_143 dX1_missed_24 rfl (Nat.le_of_ble_eq_true rfl) (Rm.ofB rfl) (X_mustF ?_))
    exact fun μ' i q => ⟨rfl, h _ _ (hI.exc q) (Fx.exc q) XR.e1⟩
  by_cases h1 : 0 ≤ r ∧ r ≤ 2
  · by_cases h2 : 0 ≤ x ∧ x ≤ 60
    · rw [if_neg (nn ⟨h1, h2⟩)] at h
      obtain ⟨N, hN, eN⟩ := in_nI (n := 60) h2 rfl
      have tN : tn x = N := by rw [eN, tn_nI (by omega)]
      rw [tN] at h
      have hr : r = 0 ∨ r = 1 ∨ r = 2 := by
        obtain ⟨j, hj, e⟩ := in_nI (n := 2) h1 rfl
        have : j = 0 ∨ j = 1 ∨ j = 2 := by omega
        rcases this with rfl | rfl | rfl
        · exact Or.inl e
        · exact Or.inr (Or.inl e)
        · exact Or.inr (Or.inr e)
      have last : ∀ μ', RepX 1 (dayN false σ r N) μ' → XPs σ μ' → XMv 1 (tn (σ 34 2)) μ' → FX SU TU μ μ' → ∀ o : Option AV, Z RX1 cX1_missed (6, some .int, [], false, rmm 8 9121 36966) (Γ, C, μ, ad, Q) 9121 36966 μ' 64 [some (vr 1 0), some (vi r), some (vi x), some (vi (nI N)), none, none] [] := by
        intro μ' hR1 hX' hv' hF _
        have hR0 : RepX 0 σ μ' := hR.sc hF (fun p i k q => by unfold SU at q; unfold SC; omega)
        have hTX := hI.tri hF hX'
        have lp : ∀ k, k ≤ tn (σ 34 2) → ∀ o : Option AV, Z RX1 cX1_missed (6, some .int, [], false, rmm 8 9121 36966) (Γ, C, μ, ad, Q) 9121 36966 μ' 69 [some (vr 1 0), some (vi r), some (vi x), some (vi (cntB (missB σ (dayN false σ r N)) k)), some (vi (nI k)), o] [] := by
          refine loopN (P := fun k => ∀ o : Option AV, Z RX1 cX1_missed (6, some .int, [], false, rmm 8 9121 36966) (Γ, C, μ, ad, Q) 9121 36966 μ' 69 [some (vr 1 0), some (vi r), some (vi x), some (vi (cntB (missB σ (dayN false σ r N)) k)), some (vi (nI k)), o] []) (tn (σ 34 2)) ?_ ?_
          · intro o
            refine z_iload4 dX1_missed_69 (z_aload0 dX1_missed_71 (z_getIv fl_X1_122 dX1_missed_72 rfl rfl (hR0.t 2 (by decide)) (z_icmp_ge 174 dX1_missed_75 (by decide) (fun _ => z_iload3 dX1_missed_174 (z_ireturn dX1_missed_175 rfl (Nat.le_of_ble_eq_true rfl) (Nat.le_of_ble_eq_true rfl) ?_)) (fun c => absurd (lpt hC.2.2.1.1) c))))
            exact h _ _ hTX (Fx.fx hF (fun p i k hp => by unfold SU; omega) (fun p hp => by unfold TU; omega)) XR.ok
          · intro k hk ih o
            have k120 : k < 120 := by omega
            rw [cntB, missB, dayN_70] at ih
            have g3 : gI μ' 35 k 4 = dayN false σ r N 3 k := hR1.q 3 k (by decide)
            have hg := (dy_dayN false hD hT r N hN).2.2.2.1 k
            have e0 : cntB (missB σ (dayN false σ r N)) k + 0 = cntB (missB σ (dayN false σ r N)) k := Int32.add_zero _
            have skip : (6 < σ 0 k ∨ σ 7 0 + nI N < σ 15 k) → Z RX1 cX1_missed (6, some .int, [], false, rmm 8 9121 36966) (Γ, C, μ, ad, Q) 9121 36966 μ' 168 [some (vr 1 0), some (vi r), some (vi x), some (vi (cntB (missB σ (dayN false σ r N)) k)), some (vi (nI k)), some (vr 35 k)] [] := by
              intro q
              have eb : (decide (6 < σ 0 k) || decide (σ 7 0 + nI N < σ 15 k)) = true := by
                rw [Bool.or_eq_true, decide_eq_true_eq, decide_eq_true_eq]; exact q
              rw [eb] at ih
              simp only [Bool.not_true, Bool.false_and] at ih
              rw [if_neg (by decide), e0] at ih
              refine z_iinc4 dX1_missed_168 (inc1 k) (z_goto 69 dX1_missed_171 (by decide) ?_)
              exact ih _
            refine z_iload4 dX1_missed_69 (z_aload0 dX1_missed_71 (z_getIv fl_X1_122 dX1_missed_72 rfl rfl (hR0.t 2 (by decide)) (z_icmp_ge 174 dX1_missed_75 (by decide) (fun c => absurd c (lpf hC.2.2.1.1 hk (by omega))) (fun _ => z_aload0 dX1_missed_78 (z_getP fl_X1_46 dX1_missed_79 rfl rfl (hX'.f1 6 (by decide)) (z_getP fl_X1_232 dX1_missed_82 rfl rfl (hX'.f4 _ (by decide)) (z_iload4 dX1_missed_85 (z_aald dX1_missed_87 rfl (by decide) rfl ⟨rfl, k120, Nat.le_of_ble_eq_true rfl⟩ (hv' k hk) (z_astore5 dX1_missed_88 (z_aload0 dX1_missed_90 (z_getP fl_X1_42 dX1_missed_91 rfl rfl (hX'.f1 5 (by decide)) (z_getP fl_X1_232 dX1_missed_94 rfl rfl (hX'.f4 _ (by decide)) (z_iload4 dX1_missed_97 (z_aald dX1_missed_99 rfl (by decide) rfl ⟨rfl, k120, Nat.le_of_ble_eq_true rfl⟩ (hX'.mo hk) (z_getIv fl_X1_236 dX1_missed_100 rfl rfl (hR0.q 0 _ (by decide)) (z_bipush (v := 6) dX1_missed_103 (by decide) (z_icmp_gt 168 dX1_missed_105 (by decide) (fun c_105 => ?_) (fun c_105 => ?_))))))))))))))))))
            · exact skip (Or.inl c_105)
            · refine z_aload0 dX1_missed_108 (z_getP fl_X1_35 dX1_missed_109 rfl rfl (hX'.f1 4 (by decide)) (z_iload4 dX1_missed_112 (z_aald dX1_missed_114 rfl (by decide) rfl ⟨rfl, k120, Nat.le_of_ble_eq_true rfl⟩ (hX'.as hk) (z_getIv fl_X1_314 dX1_missed_115 rfl rfl (hR0.q 15 _ (by decide)) (z_aload0 dX1_missed_118 (z_getP fl_X1_42 dX1_missed_119 rfl rfl (hX'.f1 5 (by decide)) (z_getIv fl_X1_140 dX1_missed_122 rfl rfl (hR0.wd 0 (by decide)) (z_iload2 dX1_missed_125 (z_iadd dX1_missed_126 (z_icmp_le 133 dX1_missed_127 (by decide) (fun c_127 => ?_) (fun c_127 => ?_)))))))))))
              · have eb : (decide (6 < σ 0 k) || decide (σ 7 0 + nI N < σ 15 k)) = false := by
                  rw [eN] at c_127
                  rw [decide_eq_false c_105, decide_eq_false (Int32.not_lt.mpr c_127)]; rfl
                rw [eb, Bool.not_false, Bool.true_and] at ih
                have miss : ¬ (0 ≤ dayN false σ r N 3 k ∧ dayN false σ r N 3 k ≤ σ 15 k) → Z RX1 cX1_missed (6, some .int, [], false, rmm 8 9121 36966) (Γ, C, μ, ad, Q) 9121 36966 μ' 165 [some (vr 1 0), some (vi r), some (vi x), some (vi (cntB (missB σ (dayN false σ r N)) k)), some (vi (nI k)), some (vr 35 k)] [vi (cntB (missB σ (dayN false σ r N)) k)] := by
                  intro q
                  have e2 : (decide (0 ≤ dayN false σ r N 3 k) && decide (dayN false σ r N 3 k ≤ σ 15 k)) = false := by
                    rw [← Bool.not_eq_true, Bool.and_eq_true, decide_eq_true_eq, decide_eq_true_eq]; exact q
                  rw [e2] at ih
                  refine z_iconst (v := 1) dX1_missed_165 (by decide) (z_iadd dX1_missed_166 (z_istore3 dX1_missed_167 (z_iinc4 dX1_missed_168 (inc1 k) (z_goto 69 dX1_missed_171 (by decide) ?_))))
                  exact ih _
                refine z_iload3 dX1_missed_133 (z_aload5 dX1_missed_134 (z_getIv fl_X1_323 dX1_missed_136 rfl rfl (g3) (z_iconst (v := (-1)) dX1_missed_139 (by decide) (z_icmp_eq 165 dX1_missed_140 (by decide) (fun c_140 => ?_) (fun c_140 => ?_)))))
                · exact miss fun q => by rw [c_140] at q; exact absurd q.1 (by decide)
                · refine z_aload5 dX1_missed_143 (z_getIv fl_X1_323 dX1_missed_145 rfl rfl (g3) (z_aload0 dX1_missed_148 (z_getP fl_X1_35 dX1_missed_149 rfl rfl (hX'.f1 4 (by decide)) (z_iload4 dX1_missed_152 (z_aald dX1_missed_154 rfl (by decide) rfl ⟨rfl, k120, Nat.le_of_ble_eq_true rfl⟩ (hX'.as hk) (z_getIv fl_X1_314 dX1_missed_155 rfl rfl (hR0.q 15 _ (by decide)) (z_icmp_gt 165 dX1_missed_158 (by decide) (fun c_158 => ?_) (fun c_158 => ?_))))))))
                  · exact miss fun q => absurd q.2 (Int32.not_le.mpr c_158)
                  · have e2 : (decide (0 ≤ dayN false σ r N 3 k) && decide (dayN false σ r N 3 k ≤ σ 15 k)) = true := by
                      rw [Bool.and_eq_true, decide_eq_true_eq, decide_eq_true_eq]
                      exact ⟨hg.resolve_left c_140, Int32.not_lt.mp c_158⟩
                    rw [e2] at ih
                    rw [Bool.not_true, if_neg (by decide)] at ih
                    refine z_iconst (v := 0) dX1_missed_161 (by decide) (z_goto 166 dX1_missed_162 (by decide) (z_iadd dX1_missed_166 (z_istore3 dX1_missed_167 (z_iinc4 dX1_missed_168 (inc1 k) (z_goto 69 dX1_missed_171 (by decide) ?_)))))
                    exact ih _
              · rw [eN] at c_127
                refine z_goto 168 dX1_missed_130 (by decide) ?_
                exact skip (Or.inr (Int32.not_le.mp c_127))
        refine z_iconst (v := 0) dX1_missed_64 (by decide) (z_istore3 dX1_missed_65 (z_iconst (v := 0) dX1_missed_66 (by decide) (z_istore4 dX1_missed_67 ?_)))
        exact lp 0 (Nat.zero_le _) none
      have lp2 : ∀ k, k ≤ N → ∀ μ', RepX 1 (dayN false σ r k) μ' → XPs σ μ' → XMv 1 (tn (σ 34 2)) μ' → FX SU TU μ μ' → Z RX1 cX1_missed (6, some .int, [], false, rmm 8 9121 36966) (Γ, C, μ, ad, Q) (121 + 150 * k) (966 + 600 * k) μ' 44 [some (vr 1 0), some (vi r), some (vi x), some (vi (nI k)), none, none] [] := by
        refine loopN (P := fun k => ∀ μ', RepX 1 (dayN false σ r k) μ' → XPs σ μ' → XMv 1 (tn (σ 34 2)) μ' → FX SU TU μ μ' → Z RX1 cX1_missed (6, some .int, [], false, rmm 8 9121 36966) (Γ, C, μ, ad, Q) (121 + 150 * k) (966 + 600 * k) μ' 44 [some (vr 1 0), some (vi r), some (vi x), some (vi (nI k)), none, none] []) N ?_ ?_
        · intro μ' hR1 hX' hv' hF
          refine z_widen (show 121 + 150 * N ≤ 9121 by omega) (show 966 + 600 * N ≤ 36966 by omega) ?_
          refine z_iload3 dX1_missed_44 (z_iload2 dX1_missed_45 (z_icmp_ge 64 dX1_missed_46 (by decide) (fun _ => ?_) (fun c => absurd (lpt eN) c)))
          exact last μ' hR1 hX' hv' hF none
        · intro k hk ih μ' hR1 hX' hv' hF
          have tk := th_dayN false σ r k
          have hW : WX 1 (tn (σ 34 1)) (tn (σ 34 2)) (tn (σ 34 3)) (tn (σ 7 4)) (tn (σ 34 0)) (dayN false σ r k) μ' := ⟨_, hX', fun q => absurd q (by decide), fun _ => rfl, hC.nb⟩
          refine z_iload3 dX1_missed_44 (z_iload2 dX1_missed_45 (z_icmp_ge 64 dX1_missed_46 (by decide) (fun c => absurd c (lpf eN hk (by omega))) (fun _ => z_aload0 dX1_missed_49 (z_aload0 dX1_missed_50 (z_getP fl_X1_46 dX1_missed_51 rfl rfl (hX'.f1 6 (by decide)) (z_iload1 dX1_missed_54 (z_invV2 (md_X1_day _) cv_X1_407 rfl dX1_missed_55 rfl (Nat.le_of_ble_eq_true rfl) (Rm.gn (by decide) (leB rfl) (show 121 + 150 * k + 150 ≤ 9121 by omega) (show 966 + 600 * k + 600 ≤ 36966 by omega)) (X_day (m := false) hW hv' hR1 (by decide) rfl (hP.th tk) (dy_dayN false hD hT r k (by omega)) (by rw [dayN_70]; exact (le_1000 hD.1.1 hT (by omega)).1) (hB.th tk) (hL.th tk) hr (fun μ2 hR2 hW2 hv2 hF2 => ?_)))))))))
          refine z_iinc3 dX1_missed_58 (inc1 k) (z_goto 44 dX1_missed_61 (by decide) ?_)
          obtain ⟨nb', hX2, -, hb1, -⟩ := hW2
          rw [hb1 (by decide)] at hX2
          have := ih μ2 hR2 hX2 hv2 (hF.tr (hF2.mono (fun p i k q => SZ_SU q) (fun p q => absurd q.1 (by decide))))
          rw [show 121 + 150 * (k + 1) = 121 + 150 * k + 150 by omega, show 966 + 600 * (k + 1) = 966 + 600 * k + 600 by omega] at this
          exact this
      refine z_iload1 dX1_missed_0 (z_iconst (v := 0) dX1_missed_1 (by decide) (z_iconst (v := 2) dX1_missed_2 (by decide) (z_invS3 (md_X1_isIn _) cs_X1_114 dX1_missed_3 rfl (Nat.le_of_ble_eq_true rfl) (Rm.ofB rfl) (X_inT h1 (z_if_eq 23 dX1_missed_6 (by decide) (fun c => absurd c (n10)) (fun _ => z_iload2 dX1_missed_9 (z_iconst (v := 0) dX1_missed_10 (by decide) (z_bipush (v := 60) dX1_missed_11 (by decide) (z_invS3 (md_X1_isIn _) cs_X1_114 dX1_missed_13 rfl (Nat.le_of_ble_eq_true rfl) (Rm.ofB rfl) (X_inT h2 (z_if_eq 23 dX1_missed_16 (by decide) (fun c => absurd c (n10)) (fun _ => z_iconst (v := 1) dX1_missed_19 (by decide) (z_goto 24 dX1_missed_20 (by decide) (z_invS1 (md_X1_must _) cs_X1_143 dX1_missed_24 rfl (Nat.le_of_ble_eq_true rfl) (Rm.ofB rfl) (X_mustT (z_aload0 dX1_missed_27 (z_getP fl_X1_46 dX1_missed_28 rfl rfl (hX.f1 6 (by decide)) (z_aload0 dX1_missed_31 (z_getP fl_X1_42 dX1_missed_32 rfl rfl (hX.f1 5 (by decide)) (z_aload0 dX1_missed_35 (z_getIv fl_X1_122 dX1_missed_36 rfl rfl (hR.t 2 (by decide)) (z_invV2 (md_X4_be _) cv_X1_419 rfl dX1_missed_39 rfl (Nat.le_of_ble_eq_true rfl) (Rm.ofB rfl) (X_wBe hX hR hC.2.2.1.1 na h6 (fun μ1 hR1 hX1 hv1 hF1 => ?_))))))))))))))))))))))))
      refine z_iconst (v := 0) dX1_missed_42 (by decide) (z_istore3 dX1_missed_43 ?_)
      exact lp2 0 (Nat.zero_le _) μ1 hR1 hX1 hv1 (hF1.mono (fun p i k q => by unfold SV at q; unfold SU; omega) (fun p q => q))
    · refine z_iload1 dX1_missed_0 (z_iconst (v := 0) dX1_missed_1 (by decide) (z_iconst (v := 2) dX1_missed_2 (by decide) (z_invS3 (md_X1_isIn _) cs_X1_114 dX1_missed_3 rfl (Nat.le_of_ble_eq_true rfl) (Rm.ofB rfl) (X_inT h1 (z_if_eq 23 dX1_missed_6 (by decide) (fun c => absurd c (n10)) (fun _ => z_iload2 dX1_missed_9 (z_iconst (v := 0) dX1_missed_10 (by decide) (z_bipush (v := 60) dX1_missed_11 (by decide) (z_invS3 (md_X1_isIn _) cs_X1_114 dX1_missed_13 rfl (Nat.le_of_ble_eq_true rfl) (Rm.ofB rfl) (X_inF h2 (z_if_eq 23 dX1_missed_16 (by decide) (fun _ => ?_) (fun c => absurd (rfl) c))))))))))))
      exact no fun q => h2 q.2
  · refine z_iload1 dX1_missed_0 (z_iconst (v := 0) dX1_missed_1 (by decide) (z_iconst (v := 2) dX1_missed_2 (by decide) (z_invS3 (md_X1_isIn _) cs_X1_114 dX1_missed_3 rfl (Nat.le_of_ble_eq_true rfl) (Rm.ofB rfl) (X_inF h1 (z_if_eq 23 dX1_missed_6 (by decide) (fun _ => ?_) (fun c => absurd (rfl) c))))))
    exact no fun q => h1 q.1
end O10
