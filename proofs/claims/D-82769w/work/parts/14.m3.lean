/-! Model: sums over loans, faces, booklets, laws -/
section M3
variable {μ : Mem} {Q : Res → Mem → Prop} {σ : Sg}
theorem M_unitsOf {d : Nat} {x day : Int32} (hM : MOK μ) (hR : RepM σ μ) (hx : x = nI d) (hd : d < 4) {n : Nat} (hn : σ 34 3 = nI n) (hn2 : n ≤ 20) (h : Q (rI (unitsF σ d day)) μ) : Ct RX5 cX5_unitsOf (5, some .int, [], false, rmm 2 0 0) [vr 50 0, vi x, vi day] μ Q := by
  refine Ct.of (ls := [some (vr 50 0), some (vi x), some (vi day), none, none]) rfl fun Γ C ad => ?_
  subst hx
  refine z_bipush (v := 8) dX5_unitsOf_0 (by decide) (z_aload0 dX5_unitsOf_2 (z_getP (v := some (97, 0)) fl_X5_94 dX5_unitsOf_3 rfl rfl (hM 46 rfl) (z_iload1 dX5_unitsOf_6 (z_ialdv dX5_unitsOf_7 rfl ⟨rfl, hd, Nat.le_of_ble_eq_true rfl⟩ (hR.col 33 _ (by decide)) (z_imul dX5_unitsOf_8 (z_istore3 dX5_unitsOf_9 (z_iconst (v := 0) dX5_unitsOf_10 (by decide) (z_istore4 dX5_unitsOf_11 ?_))))))))
  refine loopN (P := fun k => Z RX5 cX5_unitsOf (5, some .int, [], false, rmm 2 0 0) (Γ, C, μ, ad, Q) (0) (0) (μ) 13 [some (vr 50 0), some (vi (nI d)), some (vi day), some (vi (unitsS σ d day k)), some (vi (nI k))] []) n ?_ ?_ 0 (Nat.zero_le _)
  · refine z_iload4 dX5_unitsOf_13 (z_aload0 dX5_unitsOf_15 (z_getIv fl_X5_397 dX5_unitsOf_16 rfl rfl (hR.s34 3 (by decide)) (z_icmp_ge 105 dX5_unitsOf_19 (by decide) (fun _ => z_iconst (v := 0) dX5_unitsOf_105 (by decide) (z_iload3 dX5_unitsOf_106 (z_invS2 (md_J11_max _) cs_X5_366 dX5_unitsOf_107 rfl (by decide) (Rm.ofB rfl) (J_max (z_ireturn dX5_unitsOf_110 rfl (by decide) (by decide) ?_))))) (fun c => absurd (lpt hn) c))))
    rw [unitsF, hn, tn_nI (by omega)] at h
    exact h
  · intro k hk ih
    have hk2 : k < 20 := by omega
    rw [unitsS, unitF] at ih
    have skip : unitsS σ d day k + 0 = unitsS σ d day k := Int32.add_zero _
    refine z_iload4 dX5_unitsOf_13 (z_aload0 dX5_unitsOf_15 (z_getIv fl_X5_397 dX5_unitsOf_16 rfl rfl (hR.s34 3 (by decide)) (z_icmp_ge 105 dX5_unitsOf_19 (by decide) (fun c => absurd c (lpf hn hk (by omega))) (fun _ => z_aload0 dX5_unitsOf_22 (z_getP (v := some (98, 0)) fl_X5_97 dX5_unitsOf_23 rfl rfl (hM 47 rfl) (z_iload4 dX5_unitsOf_26 (z_ialdv dX5_unitsOf_28 rfl ⟨rfl, hk2, Nat.le_of_ble_eq_true rfl⟩ (hR.col 28 _ (by decide)) (z_iload1 dX5_unitsOf_29 (z_icmp_ne 99 dX5_unitsOf_30 (by decide) (fun c_30 => ?_) (fun c_30 => ?_))))))))))
    · rw [if_neg (fun q => c_30 q.1), skip] at ih
      refine z_iinc4 dX5_unitsOf_99 (inc1 k) (z_goto 13 dX5_unitsOf_102 (by decide) ?_)
      exact ih
    · refine z_iload2 dX5_unitsOf_33 (z_aload0 dX5_unitsOf_34 (z_getP (v := some (100, 0)) fl_X5_103 dX5_unitsOf_35 rfl rfl (hM 49 rfl) (z_iload4 dX5_unitsOf_38 (z_ialdv dX5_unitsOf_40 rfl ⟨rfl, hk2, Nat.le_of_ble_eq_true rfl⟩ (hR.col 30 _ (by decide)) (z_aload0 dX5_unitsOf_41 (z_getP (v := some (101, 0)) fl_X5_106 dX5_unitsOf_42 rfl rfl (hM 50 rfl) (z_iload4 dX5_unitsOf_45 (z_ialdv dX5_unitsOf_47 rfl ⟨rfl, hk2, Nat.le_of_ble_eq_true rfl⟩ (hR.col 31 _ (by decide)) (z_invS3 (md_X5_in _) cs_X5_317 dX5_unitsOf_48 rfl (by decide) (Rm.ofB rfl) (M_in (z_if_eq 99 dX5_unitsOf_51 (by decide) (fun c_51 => ?_) (fun c_51 => ?_))))))))))))
      · have e := bI_0.mp c_51
        rw [if_neg (fun q => absurd q.2 (of_decide_eq_false e)), skip] at ih
        refine z_iinc4 dX5_unitsOf_99 (inc1 k) (z_goto 13 dX5_unitsOf_102 (by decide) ?_)
        exact ih
      · have e := of_decide_eq_true (bI_n0 c_51)
        rw [if_pos ⟨c_30, e⟩] at ih
        refine z_iload3 dX5_unitsOf_54 (z_iload2 dX5_unitsOf_55 (z_aload0 dX5_unitsOf_56 (z_getP (v := some (100, 0)) fl_X5_103 dX5_unitsOf_57 rfl rfl (hM 49 rfl) (z_iload4 dX5_unitsOf_60 (z_ialdv dX5_unitsOf_62 rfl ⟨rfl, hk2, Nat.le_of_ble_eq_true rfl⟩ (hR.col 30 _ (by decide)) (z_isub dX5_unitsOf_63 (z_aload0 dX5_unitsOf_64 (z_getP (v := some (102, 0)) fl_X5_109 dX5_unitsOf_65 rfl rfl (hM 51 rfl) (z_iload4 dX5_unitsOf_68 (z_ialdv dX5_unitsOf_70 rfl ⟨rfl, hk2, Nat.le_of_ble_eq_true rfl⟩ (hR.col 32 _ (by decide)) (z_icmp_ge 87 dX5_unitsOf_71 (by decide) (fun c_71 => ?_) (fun c_71 => ?_))))))))))))
        · rw [if_neg (Int32.not_lt.mpr c_71)] at ih
          refine z_bipush (v := 8) dX5_unitsOf_87 (by decide) (z_aload0 dX5_unitsOf_89 (z_getP (v := some (99, 0)) fl_X5_100 dX5_unitsOf_90 rfl rfl (hM 48 rfl) (z_iload4 dX5_unitsOf_93 (z_ialdv dX5_unitsOf_95 rfl ⟨rfl, hk2, Nat.le_of_ble_eq_true rfl⟩ (hR.col 29 _ (by decide)) (z_imul dX5_unitsOf_96 (z_iadd dX5_unitsOf_97 (z_istore3 dX5_unitsOf_98 (z_iinc4 dX5_unitsOf_99 (inc1 k) (z_goto 13 dX5_unitsOf_102 (by decide) ?_)))))))))
          exact ih
        · rw [if_pos (Int32.not_le.mp c_71)] at ih
          refine z_bipush (v := (-2)) dX5_unitsOf_74 (by decide) (z_aload0 dX5_unitsOf_76 (z_getP (v := some (99, 0)) fl_X5_100 dX5_unitsOf_77 rfl rfl (hM 48 rfl) (z_iload4 dX5_unitsOf_80 (z_ialdv dX5_unitsOf_82 rfl ⟨rfl, hk2, Nat.le_of_ble_eq_true rfl⟩ (hR.col 29 _ (by decide)) (z_imul dX5_unitsOf_83 (z_goto 97 dX5_unitsOf_84 (by decide) (z_iadd dX5_unitsOf_97 (z_istore3 dX5_unitsOf_98 (z_iinc4 dX5_unitsOf_99 (inc1 k) (z_goto 13 dX5_unitsOf_102 (by decide) ?_))))))))))
          exact ih
theorem i5 (a w : Nat) : (5 : Int32) * nI a + nI w = nI (5 * a + w) := by rw [show (5 : Int32) = nI 5 from rfl, pk_mul, nI_add]
theorem i80 (a w : Nat) : (80 : Int32) * nI a + nI w = nI (80 * a + w) := by rw [show (80 : Int32) = nI 80 from rfl, pk_mul, nI_add]
theorem M_farOf {p q : Nat} {x y : Int32} (hM : MOK μ) (hR : RepM σ μ) (hx : x = nI p) (hy : y = nI q) (hp : p < 80) (hq : q < 80) (h : Q (rI (farF σ p q)) μ) : Ct RX5 cX5_farOf (6, some .int, [], false, rmm 1 0 0) [vr 50 0, vi x, vi y] μ Q := by
  refine Ct.of (ls := [some (vr 50 0), some (vi x), some (vi y), none, none, none]) rfl fun Γ C ad => ?_
  subst hx; subst hy
  refine z_iconst (v := 0) dX5_farOf_0 (by decide) (z_istore3 dX5_farOf_1 (z_iconst (v := 0) dX5_farOf_2 (by decide) (z_istore4 dX5_farOf_3 ?_)))
  have lp : ∀ k, k ≤ 5 → ∀ o : Option AV, Z RX5 cX5_farOf (6, some .int, [], false, rmm 1 0 0) (Γ, C, μ, ad, Q) 0 0 μ 5 [some (vr 50 0), some (vi (nI p)), some (vi (nI q)), some (vi (farS σ p q k)), some (vi (nI k)), o] [] := by
    refine loopN (P := fun k => ∀ o : Option AV, Z RX5 cX5_farOf (6, some .int, [], false, rmm 1 0 0) (Γ, C, μ, ad, Q) 0 0 μ 5 [some (vr 50 0), some (vi (nI p)), some (vi (nI q)), some (vi (farS σ p q k)), some (vi (nI k)), o] []) 5 ?_ ?_
    · intro o
      refine z_iload4 dX5_farOf_5 (z_iconst (v := 5) dX5_farOf_7 (by decide) (z_icmp_ge 50 dX5_farOf_8 (by decide) (fun _ => z_iload3 dX5_farOf_50 (z_ireturn dX5_farOf_51 rfl (by decide) (by decide) ?_)) (fun c => absurd (lpt (n := 5) rfl) c)))
      exact h
    · intro k hk ih o
      refine z_iload4 dX5_farOf_5 (z_iconst (v := 5) dX5_farOf_7 (by decide) (z_icmp_ge 50 dX5_farOf_8 (by decide) (fun c => absurd c (lpf (n := 5) rfl hk (by decide))) (fun _ => z_aload0 dX5_farOf_11 (z_getP (v := some (82, 0)) fl_X5_61 dX5_farOf_12 rfl rfl (hM 31 rfl) (z_iconst (v := 5) dX5_farOf_15 (by decide) (z_iload1 dX5_farOf_16 (z_imul dX5_farOf_17 (z_iload4 dX5_farOf_18 (z_iadd dX5_farOf_20 (z_ialdv dX5_farOf_21 rfl ⟨i5 p k, (show 5 * p + k < 400 by omega), Nat.le_of_ble_eq_true rfl⟩ (hR.col 26 _ (by decide)) (z_aload0 dX5_farOf_22 (z_getP (v := some (82, 0)) fl_X5_61 dX5_farOf_23 rfl rfl (hM 31 rfl) (z_iconst (v := 5) dX5_farOf_26 (by decide) (z_iload2 dX5_farOf_27 (z_imul dX5_farOf_28 (z_iload4 dX5_farOf_29 (z_iadd dX5_farOf_31 (z_ialdv dX5_farOf_32 rfl ⟨i5 q k, (show 5 * q + k < 400 by omega), Nat.le_of_ble_eq_true rfl⟩ (hR.col 26 _ (by decide)) (z_isub dX5_farOf_33 (z_istore5 dX5_farOf_34 (z_iload3 dX5_farOf_36 (z_iload5 dX5_farOf_37 (z_iload5 dX5_farOf_39 (z_imul dX5_farOf_41 (z_iadd dX5_farOf_42 (z_istore3 dX5_farOf_43 (z_iinc4 dX5_farOf_44 (inc1 k) (z_goto 5 dX5_farOf_47 (by decide) ?_))))))))))))))))))))))))))))
      exact ih _
  exact lp 0 (by omega) _
theorem M_validOf {x day : Int32} (hM : MOK μ) (hR : RepM σ μ) {n : Nat} (hn : σ 7 4 = nI n) (hn2 : n ≤ 150) (h : Q (rI (validF σ x day)) μ) : Ct RX5 cX5_validOf (5, some .int, [], false, rmm 1 0 0) [vr 50 0, vi x, vi day] μ Q := by
  refine Ct.of (ls := [some (vr 50 0), some (vi x), some (vi day), none, none]) rfl fun Γ C ad => ?_
  have hb : ∀ k, k < n → k < tn (σ 7 4) := fun k hk => by rw [hn, tn_nI (by omega)]; exact hk
  refine z_iconst (v := 0) dX5_validOf_0 (by decide) (z_istore3 dX5_validOf_1 (z_iconst (v := 0) dX5_validOf_2 (by decide) (z_istore4 dX5_validOf_3 ?_)))
  refine loopN (P := fun k => Z RX5 cX5_validOf (5, some .int, [], false, rmm 1 0 0) (Γ, C, μ, ad, Q) (0) (0) (μ) 5 [some (vr 50 0), some (vi x), some (vi day), some (vi (cntB (validB σ x day) k)), some (vi (nI k))] []) n ?_ ?_ 0 (Nat.zero_le _)
  · refine z_iload4 dX5_validOf_5 (z_aload0 dX5_validOf_7 (z_getIv fl_X5_415 dX5_validOf_8 rfl rfl (hR.s7 4 (by decide)) (z_icmp_ge 61 dX5_validOf_11 (by decide) (fun _ => z_iload3 dX5_validOf_61 (z_ireturn dX5_validOf_62 rfl (by decide) (by decide) ?_)) (fun c => absurd (lpt hn) c))))
    rw [validF, hn, tn_nI (by omega)] at h
    exact h
  · intro k hk ih
    have hk2 : k < 150 := by omega
    rw [cntB, validB] at ih
    have no : ¬ (σ 8 k = x ∧ σ 9 k ≤ day ∧ day < σ 10 k) → Z RX5 cX5_validOf (5, some .int, [], false, rmm 1 0 0) (Γ, C, μ, ad, Q) (0) (0) (μ) 52 [some (vr 50 0), some (vi x), some (vi day), some (vi (cntB (validB σ x day) k)), some (vi (nI k))] [vi (cntB (validB σ x day) k)] := by
      intro q
      rw [decide_eq_false q] at ih
      refine z_iconst (v := 0) dX5_validOf_52 (by decide) (z_iadd dX5_validOf_53 (z_istore3 dX5_validOf_54 (z_iinc4 dX5_validOf_55 (inc1 k) (z_goto 5 dX5_validOf_58 (by decide) ?_))))
      exact ih
    refine z_iload4 dX5_validOf_5 (z_aload0 dX5_validOf_7 (z_getIv fl_X5_415 dX5_validOf_8 rfl rfl (hR.s7 4 (by decide)) (z_icmp_ge 61 dX5_validOf_11 (by decide) (fun c => absurd c (lpf hn hk (by omega))) (fun _ => z_iload3 dX5_validOf_14 (z_aload0 dX5_validOf_15 (z_getP (v := some (118, 0)) fl_X5_151 dX5_validOf_16 rfl rfl (hM 67 rfl) (z_iload4 dX5_validOf_19 (z_ialdv dX5_validOf_21 rfl ⟨rfl, hk2, Nat.le_of_ble_eq_true rfl⟩ (hR.bk 8 _ (by decide) (hb k hk)) (z_iload1 dX5_validOf_22 (z_icmp_ne 52 dX5_validOf_23 (by decide) (fun c_23 => ?_) (fun c_23 => ?_)))))))))))
    · exact no fun q => c_23 q.1
    · refine z_aload0 dX5_validOf_26 (z_getP (v := some (119, 0)) fl_X5_154 dX5_validOf_27 rfl rfl (hM 68 rfl) (z_iload4 dX5_validOf_30 (z_ialdv dX5_validOf_32 rfl ⟨rfl, hk2, Nat.le_of_ble_eq_true rfl⟩ (hR.bk 9 _ (by decide) (hb k hk)) (z_iload2 dX5_validOf_33 (z_icmp_gt 52 dX5_validOf_34 (by decide) (fun c_34 => ?_) (fun c_34 => ?_))))))
      · exact no fun q => absurd q.2.1 (Int32.not_le.mpr c_34)
      · refine z_iload2 dX5_validOf_37 (z_aload0 dX5_validOf_38 (z_getP (v := some (120, 0)) fl_X5_157 dX5_validOf_39 rfl rfl (hM 69 rfl) (z_iload4 dX5_validOf_42 (z_ialdv dX5_validOf_44 rfl ⟨rfl, hk2, Nat.le_of_ble_eq_true rfl⟩ (hR.bk 10 _ (by decide) (hb k hk)) (z_icmp_ge 52 dX5_validOf_45 (by decide) (fun c_45 => ?_) (fun c_45 => ?_))))))
        · exact no fun q => absurd q.2.2 (Int32.not_lt.mpr c_45)
        · rw [decide_eq_true ⟨c_23, Int32.not_lt.mp c_34, Int32.not_le.mp c_45⟩] at ih
          refine z_iconst (v := 1) dX5_validOf_48 (by decide) (z_goto 53 dX5_validOf_49 (by decide) (z_iadd dX5_validOf_53 (z_istore3 dX5_validOf_54 (z_iinc4 dX5_validOf_55 (inc1 k) (z_goto 5 dX5_validOf_58 (by decide) ?_)))))
          exact ih
theorem lawS_in (σ : Sg) (day : Int32) : ∀ k, lawS σ day k = -1 ∨ ∃ j, j < k ∧ lawS σ day k = nI j
  | 0 => Or.inl rfl
  | k + 1 => by
    rw [lawS]
    split
    · exact Or.inr ⟨k, Nat.lt_succ_self k, rfl⟩
    · rcases lawS_in σ day k with e | ⟨j, hj, e⟩
      · exact Or.inl e
      · exact Or.inr ⟨j, by omega, e⟩
theorem M_lawOf {day : Int32} (hM : MOK μ) (hR : RepM σ μ) {n : Nat} (hn : σ 34 0 = nI n) (hn2 : n ≤ 12) (h : Q (rI (lawF σ day)) μ) : Ct RX5 cX5_lawOf (4, some .int, [], false, rmm 1 0 0) [vr 50 0, vi day] μ Q := by
  refine Ct.of (ls := [some (vr 50 0), some (vi day), none, none]) rfl fun Γ C ad => ?_
  refine z_iconst (v := (-1)) dX5_lawOf_0 (by decide) (z_istore2 dX5_lawOf_1 (z_iconst (v := 0) dX5_lawOf_2 (by decide) (z_istore3 dX5_lawOf_3 ?_)))
  refine loopN (P := fun k => Z RX5 cX5_lawOf (4, some .int, [], false, rmm 1 0 0) (Γ, C, μ, ad, Q) (0) (0) (μ) 4 [some (vr 50 0), some (vi day), some (vi (lawS σ day k)), some (vi (nI k))] []) n ?_ ?_ 0 (Nat.zero_le _)
  · refine z_iload3 dX5_lawOf_4 (z_aload0 dX5_lawOf_5 (z_getIv fl_X5_328 dX5_lawOf_6 rfl rfl (hR.s34 0 (by decide)) (z_icmp_ge 49 dX5_lawOf_9 (by decide) (fun _ => z_iload2 dX5_lawOf_49 (z_ireturn dX5_lawOf_50 rfl (by decide) (by decide) ?_)) (fun c => absurd (lpt hn) c))))
    rw [lawF, hn, tn_nI (by omega)] at h
    exact h
  · intro k hk ih
    have hk2 : k < 13 := by omega
    rw [lawS] at ih
    refine z_iload3 dX5_lawOf_4 (z_aload0 dX5_lawOf_5 (z_getIv fl_X5_328 dX5_lawOf_6 rfl rfl (hR.s34 0 (by decide)) (z_icmp_ge 49 dX5_lawOf_9 (by decide) (fun c => absurd c (lpf hn hk (by omega))) (fun _ => z_aload0 dX5_lawOf_12 (z_getP (v := some (61, 0)) fl_X5_21 dX5_lawOf_13 rfl rfl (hM 10 rfl) (z_iload3 dX5_lawOf_16 (z_ialdv dX5_lawOf_17 rfl ⟨rfl, hk2, Nat.le_of_ble_eq_true rfl⟩ (hR.col 38 _ (by decide)) (z_iload1 dX5_lawOf_18 (z_icmp_gt 43 dX5_lawOf_19 (by decide) (fun c_19 => ?_) (fun c_19 => ?_))))))))))
    · rw [if_neg (fun q => absurd q.1 (Int32.not_le.mpr c_19))] at ih
      refine z_iinc3 dX5_lawOf_43 (inc1 k) (z_goto 4 dX5_lawOf_46 (by decide) ?_)
      exact ih
    · have e1 : σ 38 k ≤ day := Int32.not_lt.mp c_19
      refine z_iload2 dX5_lawOf_22 (z_if_lt 41 dX5_lawOf_23 (by decide) (fun c_23 => ?_) (fun c_23 => ?_))
      · rw [if_pos ⟨e1, Or.inl c_23⟩] at ih
        refine z_iload3 dX5_lawOf_41 (z_istore2 dX5_lawOf_42 (z_iinc3 dX5_lawOf_43 (inc1 k) (z_goto 4 dX5_lawOf_46 (by decide) ?_)))
        exact ih
      · rcases lawS_in σ day k with e | ⟨j, hj, e⟩
        · rw [e] at c_23; exact absurd (by decide) c_23
        · have e2 : tn (lawS σ day k) = j := by rw [e, tn_nI (by omega)]
          refine z_aload0 dX5_lawOf_26 (z_getP (v := some (61, 0)) fl_X5_21 dX5_lawOf_27 rfl rfl (hM 10 rfl) (z_iload3 dX5_lawOf_30 (z_ialdv dX5_lawOf_31 rfl ⟨rfl, hk2, Nat.le_of_ble_eq_true rfl⟩ (hR.col 38 _ (by decide)) (z_aload0 dX5_lawOf_32 (z_getP (v := some (61, 0)) fl_X5_21 dX5_lawOf_33 rfl rfl (hM 10 rfl) (z_iload2 dX5_lawOf_36 (z_ialdv dX5_lawOf_37 rfl ⟨e, (show j < 13 by omega), Nat.le_of_ble_eq_true rfl⟩ (hR.col 38 _ (by decide)) (z_icmp_lt 43 dX5_lawOf_38 (by decide) (fun c_38 => ?_) (fun c_38 => ?_)))))))))
          · rw [if_neg (fun q => by
              rcases q.2 with q | q
              · exact c_23 q
              · rw [e2] at q
                exact absurd q (Int32.not_le.mpr c_38))] at ih
            refine z_iinc3 dX5_lawOf_43 (inc1 k) (z_goto 4 dX5_lawOf_46 (by decide) ?_)
            exact ih
          · rw [if_pos ⟨e1, Or.inr (by rw [e2]; exact Int32.not_lt.mp c_38)⟩] at ih
            refine z_iload3 dX5_lawOf_41 (z_istore2 dX5_lawOf_42 (z_iinc3 dX5_lawOf_43 (inc1 k) (z_goto 4 dX5_lawOf_46 (by decide) ?_)))
            exact ih
end M3
