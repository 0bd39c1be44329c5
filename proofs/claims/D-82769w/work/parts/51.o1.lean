/-! the Office: the calls from outside, the plain ones -/
/-- what a call of the Office comes to: an answer, or an exception out of a list by its code -/
def XR (ps : List Nat) (c : Int32) (v r : Res) : Prop := (c = 0 → r = v) ∧ (c ≠ 0 → ∃ i, r = rX (ps.getD (tn c - 1) 0) i)
theorem XR.ok {ps : List Nat} {v : Res} : XR ps 0 v v := ⟨fun _ => rfl, fun q => absurd rfl q⟩
theorem XR.e1 {p i : Nat} {ps : List Nat} {v : Res} : XR (p :: ps) 1 v (rX p i) := ⟨fun q => absurd q (by decide), fun _ => ⟨i, rfl⟩⟩
theorem XR.e2 {p q i : Nat} {ps : List Nat} {v : Res} : XR (q :: p :: ps) 2 v (rX p i) := ⟨fun q => absurd q (by decide), fun _ => ⟨i, rfl⟩⟩
theorem XR.e3 {p q q' i : Nat} {ps : List Nat} {v : Res} : XR (q :: q' :: p :: ps) 3 v (rX p i) := ⟨fun q => absurd q (by decide), fun _ => ⟨i, rfl⟩⟩
/-- counts -/
def CT (σ : Sg) : Prop := (σ 34 0 = nI (tn (σ 34 0)) ∧ tn (σ 34 0) ≤ 12) ∧ (σ 34 1 = nI (tn (σ 34 1)) ∧ tn (σ 34 1) ≤ 80) ∧ (σ 34 2 = nI (tn (σ 34 2)) ∧ tn (σ 34 2) ≤ 120) ∧ (σ 34 3 = nI (tn (σ 34 3)) ∧ tn (σ 34 3) ≤ 20) ∧ (σ 7 4 = nI (tn (σ 7 4)) ∧ tn (σ 7 4) ≤ 150) ∧ (σ 34 15 = nI (tn (σ 34 15)) ∧ tn (σ 34 15) ≤ 400)
theorem CT.ng {σ : Sg} (h : CT σ) : tn (σ 34 0) ≤ 12 := h.1.2
theorem CT.np {σ : Sg} (h : CT σ) : tn (σ 34 1) ≤ 80 := h.2.1.2
theorem CT.na {σ : Sg} (h : CT σ) : tn (σ 34 2) ≤ 120 := h.2.2.1.2
theorem CT.nl {σ : Sg} (h : CT σ) : tn (σ 34 3) ≤ 20 := h.2.2.2.1.2
theorem CT.nb {σ : Sg} (h : CT σ) : tn (σ 7 4) ≤ 150 := h.2.2.2.2.1.2
theorem CT.sz {σ : Sg} (h : CT σ) : tn (σ 34 15) ≤ 400 := h.2.2.2.2.2.2
theorem CT.isP {σ : Sg} (h : CT σ) {x : Int32} (hx : 0 ≤ x ∧ x ≤ σ 34 1 - 1) : ∃ j, j < tn (σ 34 1) ∧ x = nI j := lt_nI h.2.1.1 (by have := h.np; omega) hx
theorem CT.isA {σ : Sg} (h : CT σ) {x : Int32} (hx : 0 ≤ x ∧ x ≤ σ 34 2 - 1) : ∃ j, j < tn (σ 34 2) ∧ x = nI j := lt_nI h.2.2.1.1 (by have := h.na; omega) hx
section O1
variable {μ μ' : Mem} {σ : Sg} {Λ : Lws} {Q : Res → Mem → Prop}
/-- a place that counts nothing -/
def nct (c i : Nat) : Prop := c < 40 ∧ c ≠ 36 ∧ c ≠ 37 ∧ c ≠ 39 ∧ (c = 7 → i < 6 ∧ i ≠ 4) ∧ (c = 34 → 4 ≤ i ∧ i < 16)
theorem nct.sx {c i : Nat} (h : nct c i) : sX c i := by
  unfold sX
  obtain ⟨h1, h2, h3, h4, h5, h6⟩ := h
  split
  · rename_i q; exact (h5 q).1
  · split
    · rename_i q; exact (h6 q).2
    · exact ⟨h1, h2, h3⟩
theorem TX.st (h : TX σ Λ μ) (c i : Nat) (v : Int32) (hc : nct c i) : TX (up2 σ c i v) Λ (sI μ (xl 0 c i).1 (xl 0 c i).2.1 (xl 0 c i).2.2 (eX c v)) := by
  obtain ⟨h1, h2, h3, h4⟩ := h
  have hp : ¬ ((xl 0 c i).1 = 25 ∨ (27 ≤ (xl 0 c i).1 ∧ (xl 0 c i).1 ≤ 31)) := fun q => xl_sc hc.sx (by unfold SC; omega)
  have hk : KP μ (sI μ (xl 0 c i).1 (xl 0 c i).2.1 (xl 0 c i).2.2 (eX c v)) := KP.sI (Or.inl hp)
  obtain ⟨g1, g2, g3, g4, g5, g6⟩ := hc
  have e : ∀ j, j < 4 → up2 σ c i v 34 j = σ 34 j := fun j hj => by
    rw [up2_eq, if_neg]
    rintro ⟨q1, q2⟩
    have := g6 q1.symm
    omega
  have e7 : up2 σ c i v 7 4 = σ 7 4 := by
    rw [up2_eq, if_neg]
    rintro ⟨q1, q2⟩
    have := g5 q1.symm
    omega
  refine ⟨?_, h2.set (by decide) c i v (nct.sx ⟨g1, g2, g3, g4, g5, g6⟩), h3.kp hk (e 0 (by decide)) (fun l => by rw [up2_eq, if_neg (fun q => g4 q.1.symm)]) (fun _ _ => rfl), h4.kp hk (e 1 (by decide)) (fun l => by rw [up2_eq, if_neg (fun q => g2 q.1.symm)]) (fun l => by rw [up2_eq, if_neg (fun q => g3 q.1.symm)]) (fun _ _ => rfl)⟩
  show XP (tn (up2 σ c i v 34 1)) (tn (up2 σ c i v 34 2)) (tn (up2 σ c i v 34 3)) (tn (up2 σ c i v 7 4)) (tn (up2 σ c i v 34 0)) _
  rw [e 0 (by decide), e 1 (by decide), e 2 (by decide), e 3 (by decide), e7]
  exact h1.of rfl
theorem O_fault (hI : TX σ Λ μ) (h : ∀ r μ', TX (pFault σ).1 Λ μ' → Fx μ μ' → r = rI (pFault σ).2.2 → Q r μ') : Ct RX1 cX1_fault (1, some .int, [], false, rmm 1 0 0) [vr 1 0] μ Q := by
  refine Ct.of (ls := [some (vr 1 0)]) rfl fun Γ C ad => ?_
  have hR := hI.2.1
  refine z_aload0 dX1_fault_0 (z_getIv fl_X1_96 dX1_fault_1 rfl rfl (hR.t 14 (by decide)) (z_ireturn dX1_fault_4 rfl (Nat.le_of_ble_eq_true rfl) (Nat.le_of_ble_eq_true rfl) ?_))
  exact h _ _ hI Fx.rf rfl
theorem O_end {n : Int32} (hI : TX σ Λ μ) (h : ∀ r μ', TX (pEnd σ n).1 Λ μ' → Fx μ μ' → r = rI (pEnd σ n).2.2 → Q r μ') : Ct RX1 cX1_end (2, some .boolean, [], false, rmm 2 0 0) [vr 1 0, vi n] μ Q := by
  refine Ct.of (ls := [some (vr 1 0), some (vi n)]) rfl fun Γ C ad => ?_
  have hR := hI.2.1
  have hX := hI.1
  unfold pEnd at h
  by_cases hc : 0 ≤ n ∧ n ≤ σ 34 15
  · rw [if_neg (fun q => q.elim (fun q => absurd hc.1 (Int32.not_le.mpr q)) (fun q => absurd hc.2 (Int32.not_le.mpr q)))] at h
    refine z_iload1 dX1_end_0 (z_iconst (v := 0) dX1_end_1 (by decide) (z_aload0 dX1_end_2 (z_getP fl_X1_10 dX1_end_3 rfl rfl (hX.f1 0 (by decide)) (z_getIv fl_X1_129 dX1_end_6 rfl rfl (hR.sz) (z_invS3 (md_X1_isIn _) cs_X1_114 dX1_end_9 rfl (Nat.le_of_ble_eq_true rfl) (Rm.ofB rfl) (X_inT hc (z_if_ne 17 dX1_end_12 (by decide) (fun _ => z_aload0 dX1_end_17 (z_getP fl_X1_10 dX1_end_18 rfl rfl (hX.f1 0 (by decide)) (z_iload1 dX1_end_21 (z_putI fl_X1_129 dX1_end_22 rfl rfl ⟨rfl, rfl⟩ (z_iconst (v := 1) dX1_end_25 (by decide) (z_zreturn dX1_end_26 rfl rfl (Nat.le_of_ble_eq_true rfl) (Nat.le_of_ble_eq_true rfl) ?_)))))) (fun c => absurd c (n10)))))))))
    exact h _ _ (hI.st 34 15 n (by unfold nct; omega)) Fx.rf.sI rfl
  · rw [if_pos (by
      by_cases q : n < 0
      · exact Or.inl q
      · exact Or.inr (Int32.not_le.mp fun z => hc ⟨Int32.not_lt.mp q, z⟩))] at h
    refine z_iload1 dX1_end_0 (z_iconst (v := 0) dX1_end_1 (by decide) (z_aload0 dX1_end_2 (z_getP fl_X1_10 dX1_end_3 rfl rfl (hX.f1 0 (by decide)) (z_getIv fl_X1_129 dX1_end_6 rfl rfl (hR.sz) (z_invS3 (md_X1_isIn _) cs_X1_114 dX1_end_9 rfl (Nat.le_of_ble_eq_true rfl) (Rm.ofB rfl) (X_inF hc (z_if_ne 17 dX1_end_12 (by decide) (fun c => absurd (rfl) c) (fun _ => z_iconst (v := 0) dX1_end_15 (by decide) (z_zreturn dX1_end_16 rfl rfl (Nat.le_of_ble_eq_true rfl) (Nat.le_of_ble_eq_true rfl) ?_)))))))))
    exact h _ _ hI Fx.rf rfl
theorem O_hands {d n : Int32} (hI : TX σ Λ μ) (h : ∀ r μ', TX (pHands σ d n).1 Λ μ' → Fx μ μ' → XR [40, 38] (pHands σ d n).2.1 rV r → Q r μ') : Ct RX1 cX1_hands (3, none, [], false, rmm 8 2 12) [vr 1 0, vi d, vi n] μ Q := by
  refine Ct.of (ls := [some (vr 1 0), some (vi d), some (vi n)]) rfl fun Γ C ad => ?_
  have hX := hI.1
  unfold pHands at h
  by_cases h1 : isD d
  · rw [if_neg (nn h1)] at h
    by_cases h2 : 0 ≤ n ∧ n ≤ 30
    · rw [if_neg (nn h2)] at h
      obtain ⟨j, hj, e⟩ := isD_nI h1
      rw [e, tn_nI (by omega)] at h
      refine z_iload1 dX1_hands_0 (z_invS1 (md_X1_isDesk _) cs_X1_329 dX1_hands_1 rfl (Nat.le_of_ble_eq_true rfl) (Rm.ofB rfl) (X_deskT h1 (z_iload2 dX1_hands_4 (z_iconst (v := 0) dX1_hands_5 (by decide) (z_bipush (v := 30) dX1_hands_6 (by decide) (z_invS3 (md_X1_isIn _) cs_X1_114 dX1_hands_8 rfl (Nat.le_of_ble_eq_true rfl) (Rm.ofB rfl) (X_inT h2 (z_invS1 (md_X1_must _) cs_X1_143 dX1_hands_11 rfl (Nat.le_of_ble_eq_true rfl) (Rm.ofB rfl) (X_mustT (z_aload0 dX1_hands_14 (z_getP fl_X1_61 dX1_hands_15 rfl rfl (hX.f1 9 (by decide)) (z_iload1 dX1_hands_18 (z_iload2 dX1_hands_19 (z_iast dX1_hands_20 rfl ⟨e, hj, Nat.le_of_ble_eq_true rfl⟩ (z_return dX1_hands_21 rfl (Nat.le_of_ble_eq_true rfl) (Nat.le_of_ble_eq_true rfl) ?_)))))))))))))))
      exact h _ _ (hI.st 33 j n (by unfold nct; omega)) Fx.rf.sI XR.ok
    · rw [if_pos h2] at h
      refine z_iload1 dX1_hands_0 (z_invS1 (md_X1_isDesk _) cs_X1_329 dX1_hands_1 rfl (Nat.le_of_ble_eq_true rfl) (Rm.ofB rfl) (X_deskT h1 (z_iload2 dX1_hands_4 (z_iconst (v := 0) dX1_hands_5 (by decide) (z_bipush (v := 30) dX1_hands_6 (by decide) (z_invS3 (md_X1_isIn _) cs_X1_114 dX1_hands_8 rfl (Nat.le_of_ble_eq_true rfl) (Rm.ofB rfl) (X_inF h2 (z_invS1 (md_X1_must _) cs_X1_143 dX1_hands_11 rfl (Nat.le_of_ble_eq_true rfl) (Rm.ofB rfl) (X_mustF ?_)))))))))
      exact fun μ' i q => ⟨rfl, h _ _ (hI.exc q) (Fx.exc q) XR.e2⟩
  · rw [if_pos h1] at h
    refine z_iload1 dX1_hands_0 (z_invS1 (md_X1_isDesk _) cs_X1_329 dX1_hands_1 rfl (Nat.le_of_ble_eq_true rfl) (Rm.ofB rfl) (X_deskF h1 ?_))
    exact fun μ' i q => ⟨rfl, h _ _ (hI.exc q) (Fx.exc q) XR.e1⟩
theorem O_units {d t : Int32} (hI : TX σ Λ μ) (hC : CT σ) (hL : LB σ) (h : ∀ r μ', TX (pUnits σ d t).1 Λ μ' → Fx μ μ' → XR [40] (pUnits σ d t).2.1 (rI (pUnits σ d t).2.2) r → Q r μ') : Ct RX1 cX1_units (3, some .int, [], false, rmm 8 1 6) [vr 1 0, vi d, vi t] μ Q := by
  refine Ct.of (ls := [some (vr 1 0), some (vi d), some (vi t)]) rfl fun Γ C ad => ?_
  have hX := hI.1
  unfold pUnits at h
  by_cases h1 : isD d
  · rw [if_neg (nn h1)] at h
    obtain ⟨j, hj, e⟩ := isD_nI h1
    rw [e, tn_nI (by omega)] at h
    refine z_iload1 dX1_units_0 (z_invS1 (md_X1_isDesk _) cs_X1_329 dX1_units_1 rfl (Nat.le_of_ble_eq_true rfl) (Rm.ofB rfl) (X_deskT h1 (z_aload0 dX1_units_4 (z_iload1 dX1_units_5 (z_iload2 dX1_units_6 (z_invV2 (md_X1_unitsOf _) cv_X1_347 rfl dX1_units_7 rfl (Nat.le_of_ble_eq_true rfl) (Rm.ofB rfl) (X_unitsOf hX hI.2.1 e hj hC.2.2.2.1.1 hC.nl hL (z_ireturn dX1_units_10 rfl (Nat.le_of_ble_eq_true rfl) (Nat.le_of_ble_eq_true rfl) ?_))))))))
    exact h _ _ hI Fx.rf XR.ok
  · rw [if_pos h1] at h
    refine z_iload1 dX1_units_0 (z_invS1 (md_X1_isDesk _) cs_X1_329 dX1_units_1 rfl (Nat.le_of_ble_eq_true rfl) (Rm.ofB rfl) (X_deskF h1 ?_))
    exact fun μ' i q => ⟨rfl, h _ _ (hI.exc q) (Fx.exc q) XR.e1⟩
theorem O_order {x : Int32} (hI : TX σ Λ μ) (h : ∀ r μ', TX (pOrder σ x).1 Λ μ' → Fx μ μ' → XR [38] (pOrder σ x).2.1 rV r → Q r μ') : Ct RX1 cX1_order (2, none, [], false, rmm 7 1 6) [vr 1 0, vi x] μ Q := by
  refine Ct.of (ls := [some (vr 1 0), some (vi x)]) rfl fun Γ C ad => ?_
  unfold pOrder at h
  by_cases h1 : 0 ≤ x ∧ x ≤ 2
  · rw [if_neg (nn h1)] at h
    refine z_iload1 dX1_order_0 (z_iconst (v := 0) dX1_order_1 (by decide) (z_iconst (v := 2) dX1_order_2 (by decide) (z_invS3 (md_X1_isIn _) cs_X1_114 dX1_order_3 rfl (Nat.le_of_ble_eq_true rfl) (Rm.ofB rfl) (X_inT h1 (z_invS1 (md_X1_must _) cs_X1_143 dX1_order_6 rfl (Nat.le_of_ble_eq_true rfl) (Rm.ofB rfl) (X_mustT (z_aload0 dX1_order_9 (z_iload1 dX1_order_10 (z_putI fl_X1_350 dX1_order_11 rfl rfl ⟨rfl, rfl⟩ (z_return dX1_order_14 rfl (Nat.le_of_ble_eq_true rfl) (Nat.le_of_ble_eq_true rfl) ?_))))))))))
    exact h _ _ (hI.st 34 9 x (by unfold nct; omega)) Fx.rf.sI XR.ok
  · rw [if_pos h1] at h
    refine z_iload1 dX1_order_0 (z_iconst (v := 0) dX1_order_1 (by decide) (z_iconst (v := 2) dX1_order_2 (by decide) (z_invS3 (md_X1_isIn _) cs_X1_114 dX1_order_3 rfl (Nat.le_of_ble_eq_true rfl) (Rm.ofB rfl) (X_inF h1 (z_invS1 (md_X1_must _) cs_X1_143 dX1_order_6 rfl (Nat.le_of_ble_eq_true rfl) (Rm.ofB rfl) (X_mustF ?_))))))
    exact fun μ' i q => ⟨rfl, h _ _ (hI.exc q) (Fx.exc q) XR.e1⟩
theorem O_rules {a b c d e : Int32} (hI : TX σ Λ μ) (h : ∀ r μ', TX (pRules σ a b c d e).1 Λ μ' → Fx μ μ' → XR [38] (pRules σ a b c d e).2.1 rV r → Q r μ') : Ct RX1 cX1_rules (6, none, [], false, rmm 7 1 6) [vr 1 0, vi a, vi b, vi c, vi d, vi e] μ Q := by
  refine Ct.of (ls := [some (vr 1 0), some (vi a), some (vi b), some (vi c), some (vi d), some (vi e)]) rfl fun Γ C ad => ?_
  unfold pRules at h
  have no : ¬ ((1 ≤ a ∧ a ≤ 200) ∧ (0 ≤ b ∧ b ≤ 10000) ∧ (0 ≤ c ∧ c ≤ 1000) ∧ (0 ≤ d ∧ d ≤ 60) ∧ (0 ≤ e ∧ e ≤ 60)) → Z RX1 cX1_rules (6, none, [], false, rmm 7 1 6) (Γ, C, μ, ad, Q) (0) (0) (μ) 59 [some (vr 1 0), some (vi a), some (vi b), some (vi c), some (vi d), some (vi e)] [] := by
    intro q
    rw [if_pos q] at h
    refine z_iconst (v := 0) dX1_rules_59 (by decide) (z_invS1 (md_X1_must _) cs_X1_143 dX1_rules_60 rfl (Nat.le_of_ble_eq_true rfl) (Rm.ofB rfl) (X_mustF ?_))
    exact fun μ' i q => ⟨rfl, h _ _ (hI.exc q) (Fx.exc q) XR.e1⟩
  by_cases h1 : 1 ≤ a ∧ a ≤ 200
  · by_cases h2 : 0 ≤ b ∧ b ≤ 10000
    · by_cases h3 : 0 ≤ c ∧ c ≤ 1000
      · by_cases h4 : 0 ≤ d ∧ d ≤ 60
        · by_cases h5 : 0 ≤ e ∧ e ≤ 60
          · rw [if_neg (nn ⟨h1, h2, h3, h4, h5⟩)] at h
            refine z_iload1 dX1_rules_0 (z_iconst (v := 1) dX1_rules_1 (by decide) (z_sipush (v := 200) dX1_rules_2 (by decide) (z_invS3 (md_X1_isIn _) cs_X1_114 dX1_rules_5 rfl (Nat.le_of_ble_eq_true rfl) (Rm.ofB rfl) (X_inT h1 (z_if_eq 59 dX1_rules_8 (by decide) (fun c => absurd c (n10)) (fun _ => z_iload2 dX1_rules_11 (z_iconst (v := 0) dX1_rules_12 (by decide) (z_sipush (v := 10000) dX1_rules_13 (by decide) (z_invS3 (md_X1_isIn _) cs_X1_114 dX1_rules_16 rfl (Nat.le_of_ble_eq_true rfl) (Rm.ofB rfl) (X_inT h2 (z_if_eq 59 dX1_rules_19 (by decide) (fun c => absurd c (n10)) (fun _ => z_iload3 dX1_rules_22 (z_iconst (v := 0) dX1_rules_23 (by decide) (z_sipush (v := 1000) dX1_rules_24 (by decide) (z_invS3 (md_X1_isIn _) cs_X1_114 dX1_rules_27 rfl (Nat.le_of_ble_eq_true rfl) (Rm.ofB rfl) (X_inT h3 (z_if_eq 59 dX1_rules_30 (by decide) (fun c => absurd c (n10)) (fun _ => z_iload4 dX1_rules_33 (z_iconst (v := 0) dX1_rules_35 (by decide) (z_bipush (v := 60) dX1_rules_36 (by decide) (z_invS3 (md_X1_isIn _) cs_X1_114 dX1_rules_38 rfl (Nat.le_of_ble_eq_true rfl) (Rm.ofB rfl) (X_inT h4 (z_if_eq 59 dX1_rules_41 (by decide) (fun c => absurd c (n10)) (fun _ => z_iload5 dX1_rules_44 (z_iconst (v := 0) dX1_rules_46 (by decide) (z_bipush (v := 60) dX1_rules_47 (by decide) (z_invS3 (md_X1_isIn _) cs_X1_114 dX1_rules_49 rfl (Nat.le_of_ble_eq_true rfl) (Rm.ofB rfl) (X_inT h5 (z_if_eq 59 dX1_rules_52 (by decide) (fun c => absurd c (n10)) (fun _ => z_iconst (v := 1) dX1_rules_55 (by decide) (z_goto 60 dX1_rules_56 (by decide) (z_invS1 (md_X1_must _) cs_X1_143 dX1_rules_60 rfl (Nat.le_of_ble_eq_true rfl) (Rm.ofB rfl) (X_mustT (z_aload0 dX1_rules_63 (z_iload1 dX1_rules_64 (z_putI fl_X1_74 dX1_rules_65 rfl rfl ⟨rfl, rfl⟩ (z_aload0 dX1_rules_68 (z_iload2 dX1_rules_69 (z_putI fl_X1_78 dX1_rules_70 rfl rfl ⟨rfl, rfl⟩ (z_aload0 dX1_rules_73 (z_iload3 dX1_rules_74 (z_putI fl_X1_81 dX1_rules_75 rfl rfl ⟨rfl, rfl⟩ (z_aload0 dX1_rules_78 (z_iload4 dX1_rules_79 (z_putI fl_X1_84 dX1_rules_81 rfl rfl ⟨rfl, rfl⟩ (z_aload0 dX1_rules_84 (z_iload5 dX1_rules_85 (z_putI fl_X1_87 dX1_rules_87 rfl rfl ⟨rfl, rfl⟩ (z_return dX1_rules_90 rfl (Nat.le_of_ble_eq_true rfl) (Nat.le_of_ble_eq_true rfl) ?_)))))))))))))))))))))))))))))))))))))))))))))))))
            exact h _ _ (((((hI.st 34 4 a (by unfold nct; omega)).st 34 5 b (by unfold nct; omega)).st 34 6 c (by unfold nct; omega)).st 34 7 d (by unfold nct; omega)).st 34 8 e (by unfold nct; omega)) Fx.rf.sI.sI.sI.sI.sI XR.ok
          · refine z_iload1 dX1_rules_0 (z_iconst (v := 1) dX1_rules_1 (by decide) (z_sipush (v := 200) dX1_rules_2 (by decide) (z_invS3 (md_X1_isIn _) cs_X1_114 dX1_rules_5 rfl (Nat.le_of_ble_eq_true rfl) (Rm.ofB rfl) (X_inT h1 (z_if_eq 59 dX1_rules_8 (by decide) (fun c => absurd c (n10)) (fun _ => z_iload2 dX1_rules_11 (z_iconst (v := 0) dX1_rules_12 (by decide) (z_sipush (v := 10000) dX1_rules_13 (by decide) (z_invS3 (md_X1_isIn _) cs_X1_114 dX1_rules_16 rfl (Nat.le_of_ble_eq_true rfl) (Rm.ofB rfl) (X_inT h2 (z_if_eq 59 dX1_rules_19 (by decide) (fun c => absurd c (n10)) (fun _ => z_iload3 dX1_rules_22 (z_iconst (v := 0) dX1_rules_23 (by decide) (z_sipush (v := 1000) dX1_rules_24 (by decide) (z_invS3 (md_X1_isIn _) cs_X1_114 dX1_rules_27 rfl (Nat.le_of_ble_eq_true rfl) (Rm.ofB rfl) (X_inT h3 (z_if_eq 59 dX1_rules_30 (by decide) (fun c => absurd c (n10)) (fun _ => z_iload4 dX1_rules_33 (z_iconst (v := 0) dX1_rules_35 (by decide) (z_bipush (v := 60) dX1_rules_36 (by decide) (z_invS3 (md_X1_isIn _) cs_X1_114 dX1_rules_38 rfl (Nat.le_of_ble_eq_true rfl) (Rm.ofB rfl) (X_inT h4 (z_if_eq 59 dX1_rules_41 (by decide) (fun c => absurd c (n10)) (fun _ => z_iload5 dX1_rules_44 (z_iconst (v := 0) dX1_rules_46 (by decide) (z_bipush (v := 60) dX1_rules_47 (by decide) (z_invS3 (md_X1_isIn _) cs_X1_114 dX1_rules_49 rfl (Nat.le_of_ble_eq_true rfl) (Rm.ofB rfl) (X_inF h5 (z_if_eq 59 dX1_rules_52 (by decide) (fun _ => ?_) (fun c => absurd (rfl) c))))))))))))))))))))))))))))))
            exact no fun q => h5 q.2.2.2.2
        · refine z_iload1 dX1_rules_0 (z_iconst (v := 1) dX1_rules_1 (by decide) (z_sipush (v := 200) dX1_rules_2 (by decide) (z_invS3 (md_X1_isIn _) cs_X1_114 dX1_rules_5 rfl (Nat.le_of_ble_eq_true rfl) (Rm.ofB rfl) (X_inT h1 (z_if_eq 59 dX1_rules_8 (by decide) (fun c => absurd c (n10)) (fun _ => z_iload2 dX1_rules_11 (z_iconst (v := 0) dX1_rules_12 (by decide) (z_sipush (v := 10000) dX1_rules_13 (by decide) (z_invS3 (md_X1_isIn _) cs_X1_114 dX1_rules_16 rfl (Nat.le_of_ble_eq_true rfl) (Rm.ofB rfl) (X_inT h2 (z_if_eq 59 dX1_rules_19 (by decide) (fun c => absurd c (n10)) (fun _ => z_iload3 dX1_rules_22 (z_iconst (v := 0) dX1_rules_23 (by decide) (z_sipush (v := 1000) dX1_rules_24 (by decide) (z_invS3 (md_X1_isIn _) cs_X1_114 dX1_rules_27 rfl (Nat.le_of_ble_eq_true rfl) (Rm.ofB rfl) (X_inT h3 (z_if_eq 59 dX1_rules_30 (by decide) (fun c => absurd c (n10)) (fun _ => z_iload4 dX1_rules_33 (z_iconst (v := 0) dX1_rules_35 (by decide) (z_bipush (v := 60) dX1_rules_36 (by decide) (z_invS3 (md_X1_isIn _) cs_X1_114 dX1_rules_38 rfl (Nat.le_of_ble_eq_true rfl) (Rm.ofB rfl) (X_inF h4 (z_if_eq 59 dX1_rules_41 (by decide) (fun _ => ?_) (fun c => absurd (rfl) c))))))))))))))))))))))))
          exact no fun q => h4 q.2.2.2.1
      · refine z_iload1 dX1_rules_0 (z_iconst (v := 1) dX1_rules_1 (by decide) (z_sipush (v := 200) dX1_rules_2 (by decide) (z_invS3 (md_X1_isIn _) cs_X1_114 dX1_rules_5 rfl (Nat.le_of_ble_eq_true rfl) (Rm.ofB rfl) (X_inT h1 (z_if_eq 59 dX1_rules_8 (by decide) (fun c => absurd c (n10)) (fun _ => z_iload2 dX1_rules_11 (z_iconst (v := 0) dX1_rules_12 (by decide) (z_sipush (v := 10000) dX1_rules_13 (by decide) (z_invS3 (md_X1_isIn _) cs_X1_114 dX1_rules_16 rfl (Nat.le_of_ble_eq_true rfl) (Rm.ofB rfl) (X_inT h2 (z_if_eq 59 dX1_rules_19 (by decide) (fun c => absurd c (n10)) (fun _ => z_iload3 dX1_rules_22 (z_iconst (v := 0) dX1_rules_23 (by decide) (z_sipush (v := 1000) dX1_rules_24 (by decide) (z_invS3 (md_X1_isIn _) cs_X1_114 dX1_rules_27 rfl (Nat.le_of_ble_eq_true rfl) (Rm.ofB rfl) (X_inF h3 (z_if_eq 59 dX1_rules_30 (by decide) (fun _ => ?_) (fun c => absurd (rfl) c))))))))))))))))))
        exact no fun q => h3 q.2.2.1
    · refine z_iload1 dX1_rules_0 (z_iconst (v := 1) dX1_rules_1 (by decide) (z_sipush (v := 200) dX1_rules_2 (by decide) (z_invS3 (md_X1_isIn _) cs_X1_114 dX1_rules_5 rfl (Nat.le_of_ble_eq_true rfl) (Rm.ofB rfl) (X_inT h1 (z_if_eq 59 dX1_rules_8 (by decide) (fun c => absurd c (n10)) (fun _ => z_iload2 dX1_rules_11 (z_iconst (v := 0) dX1_rules_12 (by decide) (z_sipush (v := 10000) dX1_rules_13 (by decide) (z_invS3 (md_X1_isIn _) cs_X1_114 dX1_rules_16 rfl (Nat.le_of_ble_eq_true rfl) (Rm.ofB rfl) (X_inF h2 (z_if_eq 59 dX1_rules_19 (by decide) (fun _ => ?_) (fun c => absurd (rfl) c))))))))))))
      exact no fun q => h2 q.2.1
  · refine z_iload1 dX1_rules_0 (z_iconst (v := 1) dX1_rules_1 (by decide) (z_sipush (v := 200) dX1_rules_2 (by decide) (z_invS3 (md_X1_isIn _) cs_X1_114 dX1_rules_5 rfl (Nat.le_of_ble_eq_true rfl) (Rm.ofB rfl) (X_inF h1 (z_if_eq 59 dX1_rules_8 (by decide) (fun _ => ?_) (fun c => absurd (rfl) c))))))
    exact no fun q => h1 q.1
theorem O_blanks {n : Int32} (hI : TX σ Λ μ) (h : ∀ r μ', TX (pBlanks σ n).1 Λ μ' → Fx μ μ' → XR [38] (pBlanks σ n).2.1 (rI (pBlanks σ n).2.2) r → Q r μ') : Ct RX1 cX1_blanks (2, some .int, [], false, rmm 7 1 6) [vr 1 0, vi n] μ Q := by
  refine Ct.of (ls := [some (vr 1 0), some (vi n)]) rfl fun Γ C ad => ?_
  have hX := hI.1
  have hR := hI.2.1
  unfold pBlanks at h
  have no : ¬ ((0 ≤ n ∧ n ≤ 1000) ∧ σ 7 1 + n ≤ 10000) → Z RX1 cX1_blanks (2, some .int, [], false, rmm 7 1 6) (Γ, C, μ, ad, Q) (0) (0) (μ) 30 [some (vr 1 0), some (vi n)] [] := by
    intro q
    rw [if_pos q] at h
    refine z_iconst (v := 0) dX1_blanks_30 (by decide) (z_invS1 (md_X1_must _) cs_X1_143 dX1_blanks_31 rfl (Nat.le_of_ble_eq_true rfl) (Rm.ofB rfl) (X_mustF ?_))
    exact fun μ' i q => ⟨rfl, h _ _ (hI.exc q) (Fx.exc q) XR.e1⟩
  by_cases h1 : 0 ≤ n ∧ n ≤ 1000
  · refine z_iload1 dX1_blanks_0 (z_iconst (v := 0) dX1_blanks_1 (by decide) (z_sipush (v := 1000) dX1_blanks_2 (by decide) (z_invS3 (md_X1_isIn _) cs_X1_114 dX1_blanks_5 rfl (Nat.le_of_ble_eq_true rfl) (Rm.ofB rfl) (X_inT h1 (z_if_eq 30 dX1_blanks_8 (by decide) (fun c => absurd c (n10)) (fun _ => z_aload0 dX1_blanks_11 (z_getP fl_X1_42 dX1_blanks_12 rfl rfl (hX.f1 5 (by decide)) (z_getIv fl_X1_353 dX1_blanks_15 rfl rfl (hR.wd 1 (by decide)) (z_iload1 dX1_blanks_18 (z_iadd dX1_blanks_19 (z_sipush (v := 10000) dX1_blanks_20 (by decide) (z_icmp_gt 30 dX1_blanks_23 (by decide) (fun c_23 => ?_) (fun c_23 => ?_)))))))))))))
    · exact no fun q => absurd q.2 (Int32.not_le.mpr c_23)
    · rw [if_neg (nn ⟨h1, Int32.not_lt.mp c_23⟩)] at h
      have hT := hI.st 7 1 (σ 7 1 + n) (by unfold nct; omega)
      refine z_iconst (v := 1) dX1_blanks_26 (by decide) (z_goto 31 dX1_blanks_27 (by decide) (z_invS1 (md_X1_must _) cs_X1_143 dX1_blanks_31 rfl (Nat.le_of_ble_eq_true rfl) (Rm.ofB rfl) (X_mustT (z_aload0 dX1_blanks_34 (z_getP fl_X1_42 dX1_blanks_35 rfl rfl (hX.f1 5 (by decide)) (z_dupa dX1_blanks_38 (z_getIv fl_X1_353 dX1_blanks_39 rfl rfl (hR.wd 1 (by decide)) (z_iload1 dX1_blanks_42 (z_iadd dX1_blanks_43 (z_putI fl_X1_353 dX1_blanks_44 rfl rfl ⟨rfl, rfl⟩ (z_aload0 dX1_blanks_47 (z_getP fl_X1_42 dX1_blanks_48 rfl rfl (hX.f1 5 (by decide)) (z_getIv fl_X1_353 dX1_blanks_51 rfl rfl (hT.2.1.wd 1 (by decide)) (z_ireturn dX1_blanks_54 rfl (Nat.le_of_ble_eq_true rfl) (Nat.le_of_ble_eq_true rfl) ?_))))))))))))))
      exact h _ _ hT Fx.rf.sI XR.ok
  · refine z_iload1 dX1_blanks_0 (z_iconst (v := 0) dX1_blanks_1 (by decide) (z_sipush (v := 1000) dX1_blanks_2 (by decide) (z_invS3 (md_X1_isIn _) cs_X1_114 dX1_blanks_5 rfl (Nat.le_of_ble_eq_true rfl) (Rm.ofB rfl) (X_inF h1 (z_if_eq 30 dX1_blanks_8 (by decide) (fun _ => ?_) (fun c => absurd (rfl) c))))))
    exact no fun q => h1 q.1
theorem TX.cg {σ' : Sg} (h : TX σ Λ μ) (e : ∀ c i, sX c i ∨ c = 36 ∨ c = 37 → σ' c i = σ c i) : TX σ' Λ μ := by
  obtain ⟨h1, h2, h3, h4⟩ := h
  have e34 : ∀ j, j < 4 → σ' 34 j = σ 34 j := fun j hj => e 34 j (Or.inl (show j < 16 by omega))
  refine ⟨?_, h2.cgs fun c i hs => e c i (Or.inl hs), h3.kp KP.rf (e34 0 (by decide)) (fun l => e 39 l (Or.inl (sX_col (by decide)))) (fun _ _ => rfl), h4.kp KP.rf (e34 1 (by decide)) (fun l => e 36 l (Or.inr (Or.inl rfl))) (fun l => e 37 l (Or.inr (Or.inr rfl))) (fun _ _ => rfl)⟩
  show XP (tn (σ' 34 1)) (tn (σ' 34 2)) (tn (σ' 34 3)) (tn (σ' 7 4)) (tn (σ' 34 0)) _
  rw [e34 0 (by decide), e34 1 (by decide), e34 2 (by decide), e34 3 (by decide), e 7 4 (Or.inl (show 4 < 6 by decide))]
  exact h1
theorem O_broken {f t : Int32} (hI : TX σ Λ μ) (h : ∀ r μ', TX (pBroken σ f t).1 Λ μ' → Fx μ μ' → XR [38] (pBroken σ f t).2.1 rV r → Q r μ') : Ct RX1 cX1_broken (3, none, [], false, rmm 7 1 6) [vr 1 0, vi f, vi t] μ Q := by
  refine Ct.of (ls := [some (vr 1 0), some (vi f), some (vi t)]) rfl fun Γ C ad => ?_
  unfold pBroken at h
  refine z_iload1 dX1_broken_0 (z_iload2 dX1_broken_1 (z_icmp_gt 9 dX1_broken_2 (by decide) (fun c_2 => ?_) (fun c_2 => ?_)))
  · rw [if_pos c_2] at h
    refine z_iconst (v := 0) dX1_broken_9 (by decide) (z_invS1 (md_X1_must _) cs_X1_143 dX1_broken_10 rfl (Nat.le_of_ble_eq_true rfl) (Rm.ofB rfl) (X_mustF ?_))
    exact fun μ' i q => ⟨rfl, h _ _ (hI.exc q) (Fx.exc q) XR.e1⟩
  · rw [if_neg c_2] at h
    refine z_iconst (v := 1) dX1_broken_5 (by decide) (z_goto 10 dX1_broken_6 (by decide) (z_invS1 (md_X1_must _) cs_X1_143 dX1_broken_10 rfl (Nat.le_of_ble_eq_true rfl) (Rm.ofB rfl) (X_mustT (z_aload0 dX1_broken_13 (z_iload1 dX1_broken_14 (z_putI fl_X1_90 dX1_broken_15 rfl rfl ⟨rfl, rfl⟩ (z_aload0 dX1_broken_18 (z_iload2 dX1_broken_19 (z_putI fl_X1_93 dX1_broken_20 rfl rfl ⟨rfl, rfl⟩ (z_return dX1_broken_23 rfl (Nat.le_of_ble_eq_true rfl) (Nat.le_of_ble_eq_true rfl) ?_))))))))))
    refine h _ _ (((hI.st 34 10 f (by unfold nct; omega)).st 34 11 t (by unfold nct; omega)).cg fun c i hs => ?_) Fx.rf.sI.sI XR.ok
    have : ∀ j, 16 ≤ j → ¬ (c = 34 ∧ i = j) := by
      rintro j hj ⟨rfl, rfl⟩
      rcases hs with hs | hs | hs
      · have : i < 16 := hs
        omega
      · omega
      · omega
    dsimp only
    rw [up2_eq, if_neg (this 17 (by decide)), up2_eq, if_neg (this 16 (by decide))]
theorem O_refuse {a : Int32} (hI : TX σ Λ μ) (hC : CT σ) (h : ∀ r μ', TX (pRefuse σ a).1 Λ μ' → Fx μ μ' → XR [40, 42] (pRefuse σ a).2.1 rV r → Q r μ') : Ct RX1 cX1_refuse (4, none, [], false, rmm 8 2 12) [vr 1 0, vi a] μ Q := by
  refine Ct.of (ls := [some (vr 1 0), some (vi a), none, none]) rfl fun Γ C ad => ?_
  have hX := hI.1
  have hR := hI.2.1
  have na := hC.na
  unfold pRefuse at h
  by_cases h1 : isA σ a
  · rw [if_neg (nn h1)] at h
    obtain ⟨j, hj, e⟩ := hC.isA h1
    have ej : tn a = j := by rw [e, tn_nI (by omega)]
    rw [ej] at h
    refine z_aload0 dX1_refuse_0 (z_iload1 dX1_refuse_1 (z_invV1 (md_X1_askingAt _) cv_X1_283 rfl dX1_refuse_2 rfl (Nat.le_of_ble_eq_true rfl) (Rm.ofB rfl) (X_askingT hX hR h1 e hj na (z_astore2 dX1_refuse_5 (z_aload0 dX1_refuse_6 (z_getP fl_X1_42 dX1_refuse_7 rfl rfl (hX.f1 5 (by decide)) (z_getP fl_X1_232 dX1_refuse_10 rfl rfl (hX.f4 _ (by decide)) (z_iload1 dX1_refuse_13 (z_aald dX1_refuse_14 rfl (by decide) rfl ⟨e, (show j < 120 by omega), Nat.le_of_ble_eq_true rfl⟩ (hX.mo hj) (z_astore3 dX1_refuse_15 (z_aload3 dX1_refuse_16 (z_getIv fl_X1_236 dX1_refuse_17 rfl rfl (hR.q 0 _ (by decide)) (z_iconst (v := 5) dX1_refuse_20 (by decide) (z_icmp_gt 28 dX1_refuse_21 (by decide) (fun c_21 => ?_) (fun c_21 => ?_)))))))))))))))
    · rw [if_pos c_21] at h
      refine z_iconst (v := 0) dX1_refuse_28 (by decide) (z_invS1 (md_X1_may _) cs_X1_287 dX1_refuse_29 rfl (Nat.le_of_ble_eq_true rfl) (Rm.ofB rfl) (X_mayF ?_))
      exact fun μ' i q => ⟨rfl, h _ _ (hI.exc q) (Fx.exc q) XR.e2⟩
    · rw [if_neg c_21] at h
      refine z_iconst (v := 1) dX1_refuse_24 (by decide) (z_goto 29 dX1_refuse_25 (by decide) (z_invS1 (md_X1_may _) cs_X1_287 dX1_refuse_29 rfl (Nat.le_of_ble_eq_true rfl) (Rm.ofB rfl) (X_mayT (z_aload3 dX1_refuse_32 (z_bipush (v := 9) dX1_refuse_33 (by decide) (z_putI fl_X1_236 dX1_refuse_35 rfl rfl ⟨rfl, rfl⟩ (z_return dX1_refuse_38 rfl (Nat.le_of_ble_eq_true rfl) (Nat.le_of_ble_eq_true rfl) ?_)))))))
      exact h _ _ (hI.st 0 j 9 (by unfold nct; omega)) Fx.rf.sI XR.ok
  · rw [if_pos h1] at h
    refine z_aload0 dX1_refuse_0 (z_iload1 dX1_refuse_1 (z_invV1 (md_X1_askingAt _) cv_X1_283 rfl dX1_refuse_2 rfl (Nat.le_of_ble_eq_true rfl) (Rm.ofB rfl) (X_askingF hR h1 ?_)))
    exact fun μ' i q => ⟨rfl, h _ _ (hI.exc q) (Fx.exc q) XR.e1⟩
theorem O_again {a : Int32} (hI : TX σ Λ μ) (hC : CT σ) (h : ∀ r μ', TX (pAgain σ a).1 Λ μ' → Fx μ μ' → XR [40, 42] (pAgain σ a).2.1 rV r → Q r μ') : Ct RX1 cX1_again (4, none, [], false, rmm 8 2 12) [vr 1 0, vi a] μ Q := by
  refine Ct.of (ls := [some (vr 1 0), some (vi a), none, none]) rfl fun Γ C ad => ?_
  have hX := hI.1
  have hR := hI.2.1
  have na := hC.na
  unfold pAgain at h
  by_cases h1 : isA σ a
  · rw [if_neg (nn h1)] at h
    obtain ⟨j, hj, e⟩ := hC.isA h1
    have ej : tn a = j := by rw [e, tn_nI (by omega)]
    rw [ej] at h
    refine z_aload0 dX1_again_0 (z_iload1 dX1_again_1 (z_invV1 (md_X1_askingAt _) cv_X1_283 rfl dX1_again_2 rfl (Nat.le_of_ble_eq_true rfl) (Rm.ofB rfl) (X_askingT hX hR h1 e hj na (z_astore2 dX1_again_5 (z_aload0 dX1_again_6 (z_getP fl_X1_42 dX1_again_7 rfl rfl (hX.f1 5 (by decide)) (z_getP fl_X1_232 dX1_again_10 rfl rfl (hX.f4 _ (by decide)) (z_iload1 dX1_again_13 (z_aald dX1_again_14 rfl (by decide) rfl ⟨e, (show j < 120 by omega), Nat.le_of_ble_eq_true rfl⟩ (hX.mo hj) (z_astore3 dX1_again_15 (z_aload3 dX1_again_16 (z_getIv fl_X1_236 dX1_again_17 rfl rfl (hR.q 0 _ (by decide)) (z_bipush (v := 8) dX1_again_20 (by decide) (z_icmp_ne 29 dX1_again_22 (by decide) (fun c_22 => ?_) (fun c_22 => ?_)))))))))))))))
    · rw [if_pos c_22] at h
      refine z_iconst (v := 0) dX1_again_29 (by decide) (z_invS1 (md_X1_may _) cs_X1_287 dX1_again_30 rfl (Nat.le_of_ble_eq_true rfl) (Rm.ofB rfl) (X_mayF ?_))
      exact fun μ' i q => ⟨rfl, h _ _ (hI.exc q) (Fx.exc q) XR.e2⟩
    · rw [if_neg (nn c_22)] at h
      refine z_iconst (v := 1) dX1_again_25 (by decide) (z_goto 30 dX1_again_26 (by decide) (z_invS1 (md_X1_may _) cs_X1_287 dX1_again_30 rfl (Nat.le_of_ble_eq_true rfl) (Rm.ofB rfl) (X_mayT (z_aload3 dX1_again_33 (z_iconst (v := 5) dX1_again_34 (by decide) (z_putI fl_X1_236 dX1_again_35 rfl rfl ⟨rfl, rfl⟩ (z_aload3 dX1_again_38 (z_iconst (v := (-1)) dX1_again_39 (by decide) (z_putI fl_X1_305 dX1_again_40 rfl rfl ⟨rfl, rfl⟩ (z_return dX1_again_43 rfl (Nat.le_of_ble_eq_true rfl) (Nat.le_of_ble_eq_true rfl) ?_))))))))))
      exact h _ _ ((hI.st 0 j 5 (by unfold nct; omega)).st 4 j (-1) (by unfold nct; omega)) Fx.rf.sI.sI XR.ok
  · rw [if_pos h1] at h
    refine z_aload0 dX1_again_0 (z_iload1 dX1_again_1 (z_invV1 (md_X1_askingAt _) cv_X1_283 rfl dX1_again_2 rfl (Nat.le_of_ble_eq_true rfl) (Rm.ofB rfl) (X_askingF hR h1 ?_)))
    exact fun μ' i q => ⟨rfl, h _ _ (hI.exc q) (Fx.exc q) XR.e1⟩
theorem O_lose {a : Int32} (hI : TX σ Λ μ) (hC : CT σ) (hp : ∀ j, j < tn (σ 34 2) → σ 0 j = 6 → ∃ b, b < tn (σ 7 4) ∧ σ 1 j = nI b) (h : ∀ r μ', TX (pLose σ a).1 Λ μ' → Fx μ μ' → XR [40, 42] (pLose σ a).2.1 rV r → Q r μ') : Ct RX1 cX1_lose (5, none, [], false, rmm 8 2 12) [vr 1 0, vi a] μ Q := by
  refine Ct.of (ls := [some (vr 1 0), some (vi a), none, none, none]) rfl fun Γ C ad => ?_
  have hX := hI.1
  have hR := hI.2.1
  have na := hC.na
  have nb := hC.nb
  unfold pLose at h
  by_cases h1 : isA σ a
  · rw [if_neg (nn h1)] at h
    obtain ⟨j, hj, e⟩ := hC.isA h1
    have ej : tn a = j := by rw [e, tn_nI (by omega)]
    rw [ej] at h
    refine z_aload0 dX1_lose_0 (z_iload1 dX1_lose_1 (z_invV1 (md_X1_askingAt _) cv_X1_283 rfl dX1_lose_2 rfl (Nat.le_of_ble_eq_true rfl) (Rm.ofB rfl) (X_askingT hX hR h1 e hj na (z_astore2 dX1_lose_5 (z_aload0 dX1_lose_6 (z_getP fl_X1_42 dX1_lose_7 rfl rfl (hX.f1 5 (by decide)) (z_getP fl_X1_232 dX1_lose_10 rfl rfl (hX.f4 _ (by decide)) (z_iload1 dX1_lose_13 (z_aald dX1_lose_14 rfl (by decide) rfl ⟨e, (show j < 120 by omega), Nat.le_of_ble_eq_true rfl⟩ (hX.mo hj) (z_astore3 dX1_lose_15 (z_aload3 dX1_lose_16 (z_getIv fl_X1_236 dX1_lose_17 rfl rfl (hR.q 0 _ (by decide)) (z_bipush (v := 6) dX1_lose_20 (by decide) (z_icmp_ne 29 dX1_lose_22 (by decide) (fun c_22 => ?_) (fun c_22 => ?_)))))))))))))))
    · rw [if_pos c_22] at h
      refine z_iconst (v := 0) dX1_lose_29 (by decide) (z_invS1 (md_X1_may _) cs_X1_287 dX1_lose_30 rfl (Nat.le_of_ble_eq_true rfl) (Rm.ofB rfl) (X_mayF ?_))
      exact fun μ' i q => ⟨rfl, h _ _ (hI.exc q) (Fx.exc q) XR.e2⟩
    · rw [if_neg (nn c_22)] at h
      obtain ⟨b, hb, eb⟩ := hp j hj c_22
      have ebt : tn (σ 1 j) = b := by rw [eb, tn_nI (by omega)]
      rw [ebt] at h
      have hT := hI.st 0 j 8 (by unfold nct; omega)
      have hR1 : RepX 0 (up2 σ 0 j 8) (sI μ 34 j 0 8) := hT.2.1
      refine z_iconst (v := 1) dX1_lose_25 (by decide) (z_goto 30 dX1_lose_26 (by decide) (z_invS1 (md_X1_may _) cs_X1_287 dX1_lose_30 rfl (Nat.le_of_ble_eq_true rfl) (Rm.ofB rfl) (X_mayT (z_aload3 dX1_lose_33 (z_bipush (v := 8) dX1_lose_34 (by decide) (z_putI fl_X1_236 dX1_lose_36 rfl rfl ⟨rfl, rfl⟩ (z_aload0 dX1_lose_39 (z_getP fl_X1_51 dX1_lose_40 rfl rfl (hX.f1 7 (by decide)) (z_aload3 dX1_lose_43 (z_getIv fl_X1_294 dX1_lose_44 rfl rfl (hR1.q 1 _ (by decide)) (z_aald dX1_lose_47 rfl (by decide) rfl ⟨(show up2 σ 0 j 8 1 j = nI b from eb), (show b < 150 by omega), Nat.le_of_ble_eq_true rfl⟩ (hX.bo hb) (z_astore4 dX1_lose_48 (z_aload4 dX1_lose_50 (z_aload4 dX1_lose_52 (z_getIv fl_X1_297 dX1_lose_54 rfl rfl (hR1.q 10 _ (by decide)) (z_aload0 dX1_lose_57 (z_getP fl_X1_42 dX1_lose_58 rfl rfl (hX.f1 5 (by decide)) (z_getIv fl_X1_140 dX1_lose_61 rfl rfl (hR1.wd 0 (by decide)) (z_invS2 (md_J11_min _) cs_X1_300 dX1_lose_64 rfl (Nat.le_of_ble_eq_true rfl) (Rm.ofB rfl) (J_min (z_putI fl_X1_297 dX1_lose_67 rfl rfl ⟨rfl, rfl⟩ (z_return dX1_lose_70 rfl (Nat.le_of_ble_eq_true rfl) (Nat.le_of_ble_eq_true rfl) ?_))))))))))))))))))))))
      exact h _ _ (hT.st 10 b _ (by unfold nct; omega)) Fx.rf.sI.sI XR.ok
  · rw [if_pos h1] at h
    refine z_aload0 dX1_lose_0 (z_iload1 dX1_lose_1 (z_invV1 (md_X1_askingAt _) cv_X1_283 rfl dX1_lose_2 rfl (Nat.le_of_ble_eq_true rfl) (Rm.ofB rfl) (X_askingF hR h1 ?_)))
    exact fun μ' i q => ⟨rfl, h _ _ (hI.exc q) (Fx.exc q) XR.e1⟩
theorem O_valid {p t : Int32} (hI : TX σ Λ μ) (hC : CT σ) (h : ∀ r μ', TX (pValid σ p t).1 Λ μ' → Fx μ μ' → XR [40] (pValid σ p t).2.1 (rI (pValid σ p t).2.2) r → Q r μ') : Ct RX1 cX1_valid (4, some .int, [], false, rmm 8 1 6) [vr 1 0, vi p, vi t] μ Q := by
  refine Ct.of (ls := [some (vr 1 0), some (vi p), some (vi t), none]) rfl fun Γ C ad => ?_
  have hX := hI.1
  have hR := hI.2.1
  have np := hC.np
  unfold pValid at h
  by_cases h1 : isP σ p
  · rw [if_neg (nn h1)] at h
    obtain ⟨j, hj, e⟩ := hC.isP h1
    refine z_aload0 dX1_valid_0 (z_iload1 dX1_valid_1 (z_invV1 (md_X1_personAt _) cv_X1_201 rfl dX1_valid_2 rfl (Nat.le_of_ble_eq_true rfl) (Rm.ofB rfl) (X_personT hX hR h1 e hj np (z_astore3 dX1_valid_5 (z_aload0 dX1_valid_6 (z_iload1 dX1_valid_7 (z_iload2 dX1_valid_8 (z_invV2 (md_X1_validOf _) cv_X1_186 rfl dX1_valid_9 rfl (Nat.le_of_ble_eq_true rfl) (Rm.ofB rfl) (X_validOf hX.xq hR hC.2.2.2.2.1.1 hC.nb (z_ireturn dX1_valid_12 rfl (Nat.le_of_ble_eq_true rfl) (Nat.le_of_ble_eq_true rfl) ?_))))))))))
    exact h _ _ hI Fx.rf XR.ok
  · rw [if_pos h1] at h
    refine z_aload0 dX1_valid_0 (z_iload1 dX1_valid_1 (z_invV1 (md_X1_personAt _) cv_X1_201 rfl dX1_valid_2 rfl (Nat.le_of_ble_eq_true rfl) (Rm.ofB rfl) (X_personF hR h1 ?_)))
    exact fun μ' i q => ⟨rfl, h _ _ (hI.exc q) (Fx.exc q) XR.e1⟩
theorem O_ends {f t : Int32} (hI : TX σ Λ μ) (hC : CT σ) (h : ∀ r μ', TX (pEnds σ f t).1 Λ μ' → Fx μ μ' → r = rI (pEnds σ f t).2.2 → Q r μ') : Ct RX1 cX1_ends (5, some .int, [], false, rmm 2 0 0) [vr 1 0, vi f, vi t] μ Q :=
  X_ends hI.1 hI.2.1 hC.2.2.2.2.1.1 hC.nb (h _ _ hI Fx.rf rfl)
theorem O_queue {d : Int32} (hI : TX σ Λ μ) (hC : CT σ) (hP : PD σ (tn (σ 34 2)) (tn (σ 34 1)) (tn (σ 34 3))) (hr : σ 34 9 = 0 ∨ σ 34 9 = 1 ∨ σ 34 9 = 2) (h : ∀ r μ', TX (pQueue σ d).1 Λ μ' → Fx μ μ' → XR [40] (pQueue σ d).2.1 (rI (pQueue σ d).2.2) r → Q r μ') : Ct RX1 cX1_queue (2, some .int, [], false, rmm 8 1 6) [vr 1 0, vi d] μ Q := by
  refine Ct.of (ls := [some (vr 1 0), some (vi d)]) rfl fun Γ C ad => ?_
  have hX := hI.1
  have hR := hI.2.1
  unfold pQueue at h
  by_cases h1 : isD d
  · rw [if_neg (nn h1)] at h
    have hd4 : d = 0 ∨ d = 1 ∨ d = 2 ∨ d = 3 := by
      obtain ⟨j, hj, e⟩ := isD_nI h1
      rw [e]
      exact nI_d4 hj
    refine z_iload1 dX1_queue_0 (z_invS1 (md_X1_isDesk _) cs_X1_329 dX1_queue_1 rfl (Nat.le_of_ble_eq_true rfl) (Rm.ofB rfl) (X_deskT h1 (z_aload0 dX1_queue_4 (z_aload0 dX1_queue_5 (z_getP fl_X1_42 dX1_queue_6 rfl rfl (hX.f1 5 (by decide)) (z_iload1 dX1_queue_9 (z_aload0 dX1_queue_10 (z_getIv fl_X1_350 dX1_queue_11 rfl rfl (hR.t 9 (by decide)) (z_invV3 (md_X1_line _) cv_X1_370 rfl dX1_queue_14 rfl (Nat.le_of_ble_eq_true rfl) (Rm.ofB rfl) (X_line hX hX.mv hR (by decide) hP.1.1 hP.1.2 hd4 hr hP.2.2.2.2 (fun μ1 hD1 hr1 => ?_)))))))))))
    refine z_ireturn dX1_queue_17 rfl (Nat.le_of_ble_eq_true rfl) (Nat.le_of_ble_eq_true rfl) ?_
    have hF := FX.z20 (w := 1) hD1
    refine h _ _ (hI.sc (S := S20) (T := fun _ => False) ⟨fun p i k q => hD1.2 p i k q, fun p _ => ⟨hD1.C p, fun i => ⟨hD1.L p i, fun k => hD1.P p i k⟩⟩⟩ (fun p i k q => by unfold S20 at q; unfold SC; omega) (fun p q => q.elim) (fun p hp => ⟨Nat.le_of_eq (hD1.C p).symm, fun i _ => ⟨hD1.L p i, fun k => ⟨hD1.2 p i k (by unfold S20; omega), hD1.P p i k⟩⟩⟩)) (fun p i k hp => ⟨hD1.2 p i k (by unfold S20; omega), hD1.P p i k⟩) XR.ok
  · rw [if_pos h1] at h
    refine z_iload1 dX1_queue_0 (z_invS1 (md_X1_isDesk _) cs_X1_329 dX1_queue_1 rfl (Nat.le_of_ble_eq_true rfl) (Rm.ofB rfl) (X_deskF h1 ?_))
    exact fun μ' i q => ⟨rfl, h _ _ (hI.exc q) (Fx.exc q) XR.e1⟩
end O1
