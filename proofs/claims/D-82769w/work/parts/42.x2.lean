/-! the Office: sums, faces, costs -/
theorem ti_add {x y : Int32} (h1 : -2147483648 ≤ x.toInt + y.toInt) (h2 : x.toInt + y.toInt < 2147483648) : (x + y).toInt = x.toInt + y.toInt := by
  rw [Int32.toInt_add]
  exact Int.bmod_eq_of_le (by omega) (by omega)
theorem ti_sub {x y : Int32} (h1 : -2147483648 ≤ x.toInt - y.toInt) (h2 : x.toInt - y.toInt < 2147483648) : (x - y).toInt = x.toInt - y.toInt := by
  rw [Int32.toInt_sub]
  exact Int.bmod_eq_of_le (by omega) (by omega)
theorem ti_le {x y : Int32} : x ≤ y ↔ x.toInt ≤ y.toInt := Int32.le_iff_toInt_le
theorem ti_lt {x y : Int32} : x < y ↔ x.toInt < y.toInt := Int32.lt_iff_toInt_lt
/-- bounds of the loans -/
def LB (σ : Sg) : Prop := ∀ k, k < tn (σ 34 3) → 0 ≤ σ 30 k ∧ σ 30 k ≤ 1000 ∧ 0 ≤ σ 32 k ∧ σ 32 k ≤ 30
section X2
variable {np na nl nb ng w : Nat} {μ μ' : Mem} {σ : Sg} {Q : Res → Mem → Prop}
theorem X_loan {k : Nat} {day : Int32} (hR : RepX w σ μ) (hb : 0 ≤ σ 30 k ∧ σ 30 k ≤ 1000 ∧ 0 ≤ σ 32 k ∧ σ 32 k ≤ 30) (h : Q (rI (if σ 30 k ≤ day ∧ day ≤ σ 31 k then (if day - σ 30 k < σ 32 k then -2 * σ 29 k else 8 * σ 29 k) else 0)) μ) : Ct RX16 cX16_units (2, some .int, [], false, rmm 1 0 0) [vr 36 k, vi day] μ Q := by
  refine Ct.of (ls := [some (vr 36 k), some (vi day)]) rfl fun Γ C ad => ?_
  have b1 := ti_le.mp hb.1
  have b2 := ti_le.mp hb.2.1
  have b3 := ti_le.mp hb.2.2.1
  have b4 := ti_le.mp hb.2.2.2
  have b5 := Int32.toInt_lt day
  have z0 : (0 : Int32).toInt = 0 := rfl
  have z1 : (1000 : Int32).toInt = 1000 := rfl
  have z3 : (30 : Int32).toInt = 30 := rfl
  rw [z0] at b1 b3
  rw [z1] at b2
  rw [z3] at b4
  refine z_iload1 dX16_units_0 (z_aload0 dX16_units_1 (z_getIv fl_X16_16 dX16_units_2 rfl rfl (hR.q 30 _ (by decide)) (z_icmp_lt 16 dX16_units_5 (by decide) (fun c_5 => ?_) (fun c_5 => ?_))))
  · rw [if_neg (fun q => absurd q.1 (Int32.not_le.mpr c_5))] at h
    refine z_iconst (v := 0) dX16_units_16 (by decide) (z_goto 50 dX16_units_17 (by decide) (z_ireturn dX16_units_50 rfl (Nat.le_of_ble_eq_true rfl) (Nat.le_of_ble_eq_true rfl) ?_))
    exact h
  · refine z_iload1 dX16_units_8 (z_aload0 dX16_units_9 (z_getIv fl_X16_19 dX16_units_10 rfl rfl (hR.q 31 _ (by decide)) (z_icmp_le 20 dX16_units_13 (by decide) (fun c_13 => ?_) (fun c_13 => ?_))))
    · have c1 := ti_le.mp (Int32.not_lt.mp c_5)
      rw [if_pos ⟨Int32.not_lt.mp c_5, c_13⟩] at h
      have e : day - σ 30 k < σ 32 k ↔ day < σ 30 k + σ 32 k := by
        rw [ti_lt, ti_lt, ti_sub (by omega) (by omega), ti_add (by omega) (by omega)]
        omega
      refine z_iload1 dX16_units_20 (z_aload0 dX16_units_21 (z_getIv fl_X16_16 dX16_units_22 rfl rfl (hR.q 30 _ (by decide)) (z_aload0 dX16_units_25 (z_getIv fl_X16_22 dX16_units_26 rfl rfl (hR.q 32 _ (by decide)) (z_iadd dX16_units_29 (z_icmp_ge 43 dX16_units_30 (by decide) (fun c_30 => ?_) (fun c_30 => ?_)))))))
      · rw [if_neg (fun q => absurd (e.mp q) (Int32.not_lt.mpr c_30))] at h
        refine z_bipush (v := 8) dX16_units_43 (by decide) (z_aload0 dX16_units_45 (z_getIv fl_X16_13 dX16_units_46 rfl rfl (hR.q 29 _ (by decide)) (z_imul dX16_units_49 (z_ireturn dX16_units_50 rfl (Nat.le_of_ble_eq_true rfl) (Nat.le_of_ble_eq_true rfl) ?_))))
        exact h
      · rw [if_pos (e.mpr (Int32.not_le.mp c_30))] at h
        refine z_bipush (v := (-2)) dX16_units_33 (by decide) (z_aload0 dX16_units_35 (z_getIv fl_X16_13 dX16_units_36 rfl rfl (hR.q 29 _ (by decide)) (z_imul dX16_units_39 (z_goto 50 dX16_units_40 (by decide) (z_ireturn dX16_units_50 rfl (Nat.le_of_ble_eq_true rfl) (Nat.le_of_ble_eq_true rfl) ?_)))))
        exact h
    · rw [if_neg (fun q => c_13 q.2)] at h
      refine z_iconst (v := 0) dX16_units_16 (by decide) (z_goto 50 dX16_units_17 (by decide) (z_ireturn dX16_units_50 rfl (Nat.le_of_ble_eq_true rfl) (Nat.le_of_ble_eq_true rfl) ?_))
      exact h
theorem X_unitsOf {d : Nat} {x day : Int32} (hX : XP np na nl nb ng μ) (hR : RepX w σ μ) (hx : x = nI d) (hd : d < 4) (hn : σ 34 3 = nI nl) (hn2 : nl ≤ 20) (hL : LB σ) (h : Q (rI (unitsF σ d day)) μ) : Ct RX1 cX1_unitsOf (5, some .int, [], false, rmm 2 0 0) [vr 1 0, vi x, vi day] μ Q := by
  refine Ct.of (ls := [some (vr 1 0), some (vi x), some (vi day), none, none]) rfl fun Γ C ad => ?_
  subst hx
  have en : tn (σ 34 3) = nl := by rw [hn, tn_nI (by omega)]
  refine z_bipush (v := 8) dX1_unitsOf_0 (by decide) (z_aload0 dX1_unitsOf_2 (z_getP fl_X1_61 dX1_unitsOf_3 rfl rfl (hX.f1 9 (by decide)) (z_iload1 dX1_unitsOf_6 (z_ialdv dX1_unitsOf_7 rfl ⟨rfl, hd, Nat.le_of_ble_eq_true rfl⟩ (hR.q 33 d (by decide)) (z_imul dX1_unitsOf_8 (z_istore3 dX1_unitsOf_9 (z_iconst (v := 0) dX1_unitsOf_10 (by decide) (z_istore4 dX1_unitsOf_11 ?_))))))))
  refine loopN (P := fun k => Z RX1 cX1_unitsOf (5, some .int, [], false, rmm 2 0 0) (Γ, C, μ, ad, Q) (0) (0) (μ) 13 [some (vr 1 0), some (vi (nI d)), some (vi day), some (vi (unitsS σ d day k)), some (vi (nI k))] []) nl ?_ ?_ 0 (Nat.zero_le _)
  · refine z_iload4 dX1_unitsOf_13 (z_aload0 dX1_unitsOf_15 (z_getIv fl_X1_332 dX1_unitsOf_16 rfl rfl (hR.t 3 (by decide)) (z_icmp_ge 60 dX1_unitsOf_19 (by decide) (fun _ => z_iconst (v := 0) dX1_unitsOf_60 (by decide) (z_iload3 dX1_unitsOf_61 (z_invS2 (md_J11_max _) cs_X1_344 dX1_unitsOf_62 rfl (Nat.le_of_ble_eq_true rfl) (Rm.ofB rfl) (J_max (z_ireturn dX1_unitsOf_65 rfl (Nat.le_of_ble_eq_true rfl) (Nat.le_of_ble_eq_true rfl) ?_))))) (fun c => absurd (lpt hn) c))))
    rw [unitsF, en] at h
    exact h
  · intro k hk ih
    have hk2 : k < 20 := by omega
    rw [unitsS, unitF] at ih
    refine z_iload4 dX1_unitsOf_13 (z_aload0 dX1_unitsOf_15 (z_getIv fl_X1_332 dX1_unitsOf_16 rfl rfl (hR.t 3 (by decide)) (z_icmp_ge 60 dX1_unitsOf_19 (by decide) (fun c => absurd c (lpf hn hk (by omega))) (fun _ => z_iload3 dX1_unitsOf_22 (z_aload0 dX1_unitsOf_23 (z_getP fl_X1_57 dX1_unitsOf_24 rfl rfl (hX.f1 8 (by decide)) (z_iload4 dX1_unitsOf_27 (z_aald dX1_unitsOf_29 rfl (by decide) rfl ⟨rfl, hk2, Nat.le_of_ble_eq_true rfl⟩ (hX.lo hk) (z_getIv fl_X1_338 dX1_unitsOf_30 rfl rfl (hR.q 28 _ (by decide)) (z_iload1 dX1_unitsOf_33 (z_icmp_ne 51 dX1_unitsOf_34 (by decide) (fun c_34 => ?_) (fun c_34 => ?_))))))))))))
    · rw [if_neg (fun q => c_34 q.1)] at ih
      refine z_iconst (v := 0) dX1_unitsOf_51 (by decide) (z_iadd dX1_unitsOf_52 (z_istore3 dX1_unitsOf_53 (z_iinc4 dX1_unitsOf_54 (inc1 k) (z_goto 13 dX1_unitsOf_57 (by decide) ?_))))
      exact ih
    · refine z_aload0 dX1_unitsOf_37 (z_getP fl_X1_57 dX1_unitsOf_38 rfl rfl (hX.f1 8 (by decide)) (z_iload4 dX1_unitsOf_41 (z_aald dX1_unitsOf_43 rfl (by decide) rfl ⟨rfl, hk2, Nat.le_of_ble_eq_true rfl⟩ (hX.lo hk) (z_iload2 dX1_unitsOf_44 (z_invV1 (md_X16_units _) cv_X1_341 rfl dX1_unitsOf_45 rfl (Nat.le_of_ble_eq_true rfl) (Rm.ofB rfl) (X_loan hR (hL k (by rw [en]; exact hk)) (z_goto 52 dX1_unitsOf_48 (by decide) (z_iadd dX1_unitsOf_52 (z_istore3 dX1_unitsOf_53 (z_iinc4 dX1_unitsOf_54 (inc1 k) (z_goto 13 dX1_unitsOf_57 (by decide) ?_)))))))))))
      by_cases q : σ 30 k ≤ day ∧ day ≤ σ 31 k
      · rw [if_pos ⟨c_34, q⟩] at ih
        rw [if_pos q]
        exact ih
      · rw [if_neg (fun z => q z.2)] at ih
        rw [if_neg q]
        exact ih
theorem X_callsOf (hX : XP np na nl nb ng μ) (hv : XMv w na μ) (hR : RepX w σ μ) (hw : w < 2) (hn : σ 34 2 = nI na) (hn2 : na ≤ 120) (h : Q (rI (callF σ)) μ) : Ct RX1 cX1_callsOf (4, some .int, [], false, rmm 1 0 0) [vr 1 0, vr 4 w] μ Q := by
  refine Ct.of (ls := [some (vr 1 0), some (vr 4 w), none, none]) rfl fun Γ C ad => ?_
  refine z_iconst (v := 0) dX1_callsOf_0 (by decide) (z_istore2 dX1_callsOf_1 (z_iconst (v := 0) dX1_callsOf_2 (by decide) (z_istore3 dX1_callsOf_3 ?_)))
  refine loopN (P := fun k => Z RX1 cX1_callsOf (4, some .int, [], false, rmm 1 0 0) (Γ, C, μ, ad, Q) (0) (0) (μ) 4 [some (vr 1 0), some (vr 4 w), some (vi (cntB (callB σ) k)), some (vi (nI k))] []) na ?_ ?_ 0 (Nat.zero_le _)
  · refine z_iload3 dX1_callsOf_4 (z_aload0 dX1_callsOf_5 (z_getIv fl_X1_122 dX1_callsOf_6 rfl rfl (hR.t 2 (by decide)) (z_icmp_ge 60 dX1_callsOf_9 (by decide) (fun _ => z_iload2 dX1_callsOf_60 (z_iconst (v := 3) dX1_callsOf_61 (by decide) (z_idiv dX1_callsOf_62 (by decide) (z_ireturn dX1_callsOf_63 rfl (Nat.le_of_ble_eq_true rfl) (Nat.le_of_ble_eq_true rfl) ?_)))) (fun c => absurd (lpt hn) c))))
    rw [callF, hn, tn_nI (by omega)] at h
    exact h
  · intro k hk ih
    have hk2 : k < 120 := by omega
    rw [cntB, callB] at ih
    have no : ¬ (σ 0 k ≤ 5 ∧ σ 34 4 < σ 7 0 - σ 14 k) → Z RX1 cX1_callsOf (4, some .int, [], false, rmm 1 0 0) (Γ, C, μ, ad, Q) (0) (0) (μ) 51 [some (vr 1 0), some (vr 4 w), some (vi (cntB (callB σ) k)), some (vi (nI k))] [vi (cntB (callB σ) k)] := by
      intro q
      rw [decide_eq_false q] at ih
      refine z_iconst (v := 0) dX1_callsOf_51 (by decide) (z_iadd dX1_callsOf_52 (z_istore2 dX1_callsOf_53 (z_iinc3 dX1_callsOf_54 (inc1 k) (z_goto 4 dX1_callsOf_57 (by decide) ?_))))
      exact ih
    refine z_iload3 dX1_callsOf_4 (z_aload0 dX1_callsOf_5 (z_getIv fl_X1_122 dX1_callsOf_6 rfl rfl (hR.t 2 (by decide)) (z_icmp_ge 60 dX1_callsOf_9 (by decide) (fun c => absurd c (lpf hn hk (by omega))) (fun _ => z_iload2 dX1_callsOf_12 (z_aload1 dX1_callsOf_13 (z_getP fl_X1_232 dX1_callsOf_14 rfl rfl (hX.f4 _ hw) (z_iload3 dX1_callsOf_17 (z_aald dX1_callsOf_18 rfl (by decide) rfl ⟨rfl, hk2, Nat.le_of_ble_eq_true rfl⟩ (hv k hk) (z_getIv fl_X1_236 dX1_callsOf_19 (kdW hw) rfl (hR.q 0 _ (by decide)) (z_iconst (v := 5) dX1_callsOf_22 (by decide) (z_icmp_gt 51 dX1_callsOf_23 (by decide) (fun c_23 => ?_) (fun c_23 => ?_))))))))))))
    · exact no fun q => absurd q.1 (Int32.not_le.mpr c_23)
    · refine z_aload1 dX1_callsOf_26 (z_getIv fl_X1_140 dX1_callsOf_27 rfl rfl (hR.wd 0 (by decide)) (z_aload0 dX1_callsOf_30 (z_getP fl_X1_35 dX1_callsOf_31 rfl rfl (hX.f1 4 (by decide)) (z_iload3 dX1_callsOf_34 (z_aald dX1_callsOf_35 rfl (by decide) rfl ⟨rfl, hk2, Nat.le_of_ble_eq_true rfl⟩ (hX.as hk) (z_getIv fl_X1_311 dX1_callsOf_36 rfl rfl (hR.q 14 _ (by decide)) (z_isub dX1_callsOf_39 (z_aload0 dX1_callsOf_40 (z_getIv fl_X1_74 dX1_callsOf_41 rfl rfl (hR.t 4 (by decide)) (z_icmp_le 51 dX1_callsOf_44 (by decide) (fun c_44 => ?_) (fun c_44 => ?_)))))))))))
      · exact no fun q => absurd q.2 (Int32.not_lt.mpr c_44)
      · rw [decide_eq_true ⟨Int32.not_lt.mp c_23, Int32.not_le.mp c_44⟩] at ih
        refine z_iconst (v := 1) dX1_callsOf_47 (by decide) (z_goto 52 dX1_callsOf_48 (by decide) (z_iadd dX1_callsOf_52 (z_istore2 dX1_callsOf_53 (z_iinc3 dX1_callsOf_54 (inc1 k) (z_goto 4 dX1_callsOf_57 (by decide) ?_)))))
        exact ih
theorem X_isValid {b : Nat} {day : Int32} (hR : RepX w σ μ) (h : Q (rI (bI (decide (σ 9 b ≤ day ∧ day < σ 10 b)))) μ) : Ct RX17 cX17_isValid (2, some .boolean, [], false, rmm 1 0 0) [vr 37 b, vi day] μ Q := by
  refine Ct.of (ls := [some (vr 37 b), some (vi day)]) rfl fun Γ C ad => ?_
  refine z_aload0 dX17_isValid_0 (z_getIv fl_X17_13 dX17_isValid_1 rfl rfl (hR.q 9 _ (by decide)) (z_iload1 dX17_isValid_4 (z_icmp_gt 20 dX17_isValid_5 (by decide) (fun c_5 => ?_) (fun c_5 => ?_))))
  · refine z_iconst (v := 0) dX17_isValid_20 (by decide) (z_zreturn dX17_isValid_21 rfl rfl (Nat.le_of_ble_eq_true rfl) (Nat.le_of_ble_eq_true rfl) ?_)
    exact hbf h (decide_eq_false fun q => absurd q.1 (Int32.not_le.mpr c_5))
  · refine z_iload1 dX17_isValid_8 (z_aload0 dX17_isValid_9 (z_getIv fl_X17_16 dX17_isValid_10 rfl rfl (hR.q 10 _ (by decide)) (z_icmp_ge 20 dX17_isValid_13 (by decide) (fun c_13 => ?_) (fun c_13 => ?_))))
    · refine z_iconst (v := 0) dX17_isValid_20 (by decide) (z_zreturn dX17_isValid_21 rfl rfl (Nat.le_of_ble_eq_true rfl) (Nat.le_of_ble_eq_true rfl) ?_)
      exact hbf h (decide_eq_false fun q => absurd q.2 (Int32.not_lt.mpr c_13))
    · refine z_iconst (v := 1) dX17_isValid_16 (by decide) (z_goto 21 dX17_isValid_17 (by decide) (z_zreturn dX17_isValid_21 rfl rfl (Nat.le_of_ble_eq_true rfl) (Nat.le_of_ble_eq_true rfl) ?_))
      exact hbt h (decide_eq_true ⟨Int32.not_lt.mp c_5, Int32.not_le.mp c_13⟩)
theorem X_validOf {x day : Int32} (hX : XQ np nb ng μ) (hR : RepX 0 σ μ) (hn : σ 7 4 = nI nb) (hn2 : nb ≤ 150) (h : Q (rI (validF σ x day)) μ) : Ct RX1 cX1_validOf (5, some .int, [], false, rmm 2 0 0) [vr 1 0, vi x, vi day] μ Q := by
  refine Ct.of (ls := [some (vr 1 0), some (vi x), some (vi day), none, none]) rfl fun Γ C ad => ?_
  refine z_iconst (v := 0) dX1_validOf_0 (by decide) (z_istore3 dX1_validOf_1 (z_iconst (v := 0) dX1_validOf_2 (by decide) (z_istore4 dX1_validOf_3 ?_)))
  refine loopN (P := fun k => Z RX1 cX1_validOf (5, some .int, [], false, rmm 2 0 0) (Γ, C, μ, ad, Q) (0) (0) (μ) 5 [some (vr 1 0), some (vi x), some (vi day), some (vi (cntB (validB σ x day) k)), some (vi (nI k))] []) nb ?_ ?_ 0 (Nat.zero_le _)
  · refine z_iload4 dX1_validOf_5 (z_aload0 dX1_validOf_7 (z_getP fl_X1_42 dX1_validOf_8 rfl rfl (hX.f1 5 (by decide)) (z_getIv fl_X1_167 dX1_validOf_11 rfl rfl (hR.wd 4 (by decide)) (z_icmp_ge 59 dX1_validOf_14 (by decide) (fun _ => z_iload3 dX1_validOf_59 (z_ireturn dX1_validOf_60 rfl (Nat.le_of_ble_eq_true rfl) (Nat.le_of_ble_eq_true rfl) ?_)) (fun c => absurd (lpt hn) c)))))
    rw [validF, hn, tn_nI (by omega)] at h
    exact h
  · intro k hk ih
    have hk2 : k < 150 := by omega
    rw [cntB, validB] at ih
    have no : ¬ (σ 8 k = x ∧ σ 9 k ≤ day ∧ day < σ 10 k) → Z RX1 cX1_validOf (5, some .int, [], false, rmm 2 0 0) (Γ, C, μ, ad, Q) (0) (0) (μ) 50 [some (vr 1 0), some (vi x), some (vi day), some (vi (cntB (validB σ x day) k)), some (vi (nI k))] [vi (cntB (validB σ x day) k)] := by
      intro q
      rw [decide_eq_false q] at ih
      refine z_iconst (v := 0) dX1_validOf_50 (by decide) (z_iadd dX1_validOf_51 (z_istore3 dX1_validOf_52 (z_iinc4 dX1_validOf_53 (inc1 k) (z_goto 5 dX1_validOf_56 (by decide) ?_))))
      exact ih
    refine z_iload4 dX1_validOf_5 (z_aload0 dX1_validOf_7 (z_getP fl_X1_42 dX1_validOf_8 rfl rfl (hX.f1 5 (by decide)) (z_getIv fl_X1_167 dX1_validOf_11 rfl rfl (hR.wd 4 (by decide)) (z_icmp_ge 59 dX1_validOf_14 (by decide) (fun c => absurd c (lpf hn hk (by omega))) (fun _ => z_iload3 dX1_validOf_17 (z_aload0 dX1_validOf_18 (z_getP fl_X1_51 dX1_validOf_19 rfl rfl (hX.f1 7 (by decide)) (z_iload4 dX1_validOf_22 (z_aald dX1_validOf_24 rfl (by decide) rfl ⟨rfl, hk2, Nat.le_of_ble_eq_true rfl⟩ (hX.bo hk) (z_getIv fl_X1_169 dX1_validOf_25 rfl rfl (hR.q 8 _ (by decide)) (z_iload1 dX1_validOf_28 (z_icmp_ne 50 dX1_validOf_29 (by decide) (fun c_29 => ?_) (fun c_29 => ?_)))))))))))))
    · exact no fun q => c_29 q.1
    · refine z_aload0 dX1_validOf_32 (z_getP fl_X1_51 dX1_validOf_33 rfl rfl (hX.f1 7 (by decide)) (z_iload4 dX1_validOf_36 (z_aald dX1_validOf_38 rfl (by decide) rfl ⟨rfl, hk2, Nat.le_of_ble_eq_true rfl⟩ (hX.bo hk) (z_iload2 dX1_validOf_39 (z_invV1 (md_X17_isValid _) cv_X1_172 rfl dX1_validOf_40 rfl (Nat.le_of_ble_eq_true rfl) (Rm.ofB rfl) (X_isValid hR (z_if_eq 50 dX1_validOf_43 (by decide) (fun c_43 => ?_) (fun c_43 => ?_))))))))
      · exact no fun q => of_decide_eq_false (bI_0.mp c_43) q.2
      · rw [decide_eq_true ⟨c_29, of_decide_eq_true (bI_n0 c_43)⟩] at ih
        refine z_iconst (v := 1) dX1_validOf_46 (by decide) (z_goto 51 dX1_validOf_47 (by decide) (z_iadd dX1_validOf_51 (z_istore3 dX1_validOf_52 (z_iinc4 dX1_validOf_53 (inc1 k) (z_goto 5 dX1_validOf_56 (by decide) ?_)))))
        exact ih
end X2
