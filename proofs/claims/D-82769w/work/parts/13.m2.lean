/-! Model: tests, sums -/
section M2
variable {μ : Mem} {Q : Res → Mem → Prop} {σ : Sg}
theorem loopN (P : Nat → Prop) (n : Nat) (hend : P n) (hstep : ∀ k, k < n → P (k + 1) → P k) : ∀ k, k ≤ n → P k := by
  intro k hk
  obtain ⟨m, rfl⟩ : ∃ m, n = k + m := ⟨n - k, by omega⟩
  induction m generalizing k with
  | zero => exact hend
  | succ m ih =>
    refine hstep k (by omega) (ih (k + 1) (by rw [show k + 1 + m = k + (m + 1) by omega]; exact hend) (fun j hj => hstep j (by omega)) (by omega))
theorem lpt {y : Int32} {n : Nat} (h : y = nI n) : y ≤ nI n := by rw [h]; exact Int32.le_refl _
theorem lpf {y : Int32} {n k : Nat} (h : y = nI n) (hk : k < n) (hn : n < 2147483648) : ¬ y ≤ nI k := by rw [h]; exact nI_ge hk hn
theorem inc1 (k : Nat) : nI k + Int32.ofInt 1 = nI (k + 1) := nI_1 k
theorem J_max {a b : Int32} (h : Q (rI (jmax a b)) μ) : Ct RJ11 cJ11_max (2, some .int, [], false, rmm 1 0 0) [vi a, vi b] μ Q := by
  refine Ct.of (ls := [some (vi a), some (vi b)]) rfl fun Γ C ad => ?_
  refine z_iload0 dJ11_max_0 (z_iload1 dJ11_max_1 (z_icmp_lt 9 dJ11_max_2 (by decide) (fun c_2 => ?_) (fun c_2 => ?_)))
  · refine z_iload1 dJ11_max_9 (z_ireturn dJ11_max_10 rfl (by decide) (by decide) ?_)
    rw [jmax, if_pos c_2] at h; exact h
  · refine z_iload0 dJ11_max_5 (z_goto 10 dJ11_max_6 (by decide) (z_ireturn dJ11_max_10 rfl (by decide) (by decide) ?_))
    rw [jmax, if_neg c_2] at h; exact h
theorem J_min {a b : Int32} (h : Q (rI (jmin a b)) μ) : Ct RJ11 cJ11_min (2, some .int, [], false, rmm 1 0 0) [vi a, vi b] μ Q := by
  refine Ct.of (ls := [some (vi a), some (vi b)]) rfl fun Γ C ad => ?_
  refine z_iload0 dJ11_min_0 (z_iload1 dJ11_min_1 (z_icmp_gt 9 dJ11_min_2 (by decide) (fun c_2 => ?_) (fun c_2 => ?_)))
  · refine z_iload1 dJ11_min_9 (z_ireturn dJ11_min_10 rfl (by decide) (by decide) ?_)
    rw [jmin, if_pos c_2] at h; exact h
  · refine z_iload0 dJ11_min_5 (z_goto 10 dJ11_min_6 (by decide) (z_ireturn dJ11_min_10 rfl (by decide) (by decide) ?_))
    rw [jmin, if_neg c_2] at h; exact h
theorem M_stateAt {d : Int32} (h : Q (rI (stAt d)) μ) : Ct RX5 cX5_stateAt (1, some .int, [], false, rmm 1 0 0) [vi d] μ Q := by
  refine Ct.of (ls := [some (vi d)]) rfl fun Γ C ad => ?_
  unfold stAt at h
  refine z_iload0 dX5_stateAt_0 (z_if_ne 8 dX5_stateAt_1 (by decide) (fun c_1 => ?_) (fun c_1 => ?_))
  · rw [if_neg c_1] at h
    refine z_iload0 dX5_stateAt_8 (z_iconst (v := 1) dX5_stateAt_9 (by decide) (z_icmp_ne 17 dX5_stateAt_10 (by decide) (fun c_10 => ?_) (fun c_10 => ?_)))
    · rw [if_neg c_10] at h
      refine z_iload0 dX5_stateAt_17 (z_iconst (v := 2) dX5_stateAt_18 (by decide) (z_icmp_ne 26 dX5_stateAt_19 (by decide) (fun c_19 => ?_) (fun c_19 => ?_)))
      · rw [if_neg c_19] at h
        refine z_iconst (v := 5) dX5_stateAt_26 (by decide) (z_ireturn dX5_stateAt_27 rfl (by decide) (by decide) ?_)
        exact h
      · rw [if_pos c_19] at h
        refine z_iconst (v := 4) dX5_stateAt_22 (by decide) (z_goto 27 dX5_stateAt_23 (by decide) (z_ireturn dX5_stateAt_27 rfl (by decide) (by decide) ?_))
        exact h
    · rw [if_pos c_10] at h
      refine z_iconst (v := 2) dX5_stateAt_13 (by decide) (z_goto 27 dX5_stateAt_14 (by decide) (z_ireturn dX5_stateAt_27 rfl (by decide) (by decide) ?_))
      exact h
  · rw [if_pos c_1] at h
    refine z_iconst (v := 0) dX5_stateAt_4 (by decide) (z_goto 27 dX5_stateAt_5 (by decide) (z_ireturn dX5_stateAt_27 rfl (by decide) (by decide) ?_))
    exact h
theorem M_hasTicket {a : Nat} {x : Int32} (hM : MOK μ) (hR : RepM σ μ) (hx : x = nI a) (ha : a < 120) (h : Q (rI (bI (tickB σ a))) μ) : Ct RX5 cX5_hasTicket (2, some .boolean, [], false, rmm 1 0 0) [vr 50 0, vi x] μ Q := by
  refine Ct.of (ls := [some (vr 50 0), some (vi x)]) rfl fun Γ C ad => ?_
  refine z_aload0 dX5_hasTicket_0 (z_getP (v := some (108, 0)) fl_X5_124 dX5_hasTicket_1 rfl rfl (hM 57 rfl) (z_iload1 dX5_hasTicket_4 (z_ialdv dX5_hasTicket_5 rfl ⟨hx, ha, Nat.le_of_ble_eq_true rfl⟩ (hR.col 23 _ (by decide)) (z_bipush (v := 6) dX5_hasTicket_6 (by decide) (z_ishr dX5_hasTicket_8 (z_iconst (v := 1) dX5_hasTicket_9 (by decide) (z_iand dX5_hasTicket_10 (z_iconst (v := 1) dX5_hasTicket_11 (by decide) (z_icmp_ne 19 dX5_hasTicket_12 (by decide) (fun c_12 => ?_) (fun c_12 => ?_))))))))))
  · refine z_iconst (v := 0) dX5_hasTicket_19 (by decide) (z_zreturn dX5_hasTicket_20 rfl rfl (by decide) (by decide) ?_)
    exact hbf h (by simp [tickB]; exact c_12)
  · refine z_iconst (v := 1) dX5_hasTicket_15 (by decide) (z_goto 20 dX5_hasTicket_16 (by decide) (z_zreturn dX5_hasTicket_20 rfl rfl (by decide) (by decide) ?_))
    exact hbt h (by simp [tickB]; exact c_12)
theorem M_isAhead {a b : Nat} {x y r : Int32} (hM : MOK μ) (hR : RepM σ μ) (hx : x = nI a) (hy : y = nI b) (ha : a < 120) (hb : b < 120) (hu : σ 16 a = 0 ∨ σ 16 a = 1) (h : Q (rI (bI (aheadB σ r a b))) μ) : Ct RX5 cX5_isAhead (4, some .boolean, [], false, rmm 2 0 0) [vr 50 0, vi x, vi y, vi r] μ Q := by
  refine Ct.of (ls := [some (vr 50 0), some (vi x), some (vi y), some (vi r)]) rfl fun Γ C ad => ?_
  have tail : (¬ σ 16 a ≠ σ 16 b) → (¬ (r = 0 ∧ σ 14 a ≠ σ 14 b)) → (¬ (r = 2 ∧ tickB σ a ≠ tickB σ b)) → Z RX5 cX5_isAhead (4, some .boolean, [], false, rmm 2 0 0) (Γ, C, μ, ad, Q) (0) (0) (μ) 86 [some (vr 50 0), some (vi x), some (vi y), some (vi r)] [] := by
    intro e1 e2 e3
    rw [aheadB, if_neg e1, if_neg e2, if_neg e3] at h
    have last : ¬ (0 < r ∧ σ 15 a ≠ σ 15 b) → Z RX5 cX5_isAhead (4, some .boolean, [], false, rmm 2 0 0) (Γ, C, μ, ad, Q) (0) (0) (μ) 126 [some (vr 50 0), some (vi x), some (vi y), some (vi r)] [] := by
      intro e4
      rw [if_neg e4] at h
      subst hx; subst hy
      refine z_iload1 dX5_isAhead_126 (z_iload2 dX5_isAhead_127 (z_icmp_ge 135 dX5_isAhead_128 (by decide) (fun c_128 => ?_) (fun c_128 => ?_)))
      · refine z_iconst (v := 0) dX5_isAhead_135 (by decide) (z_zreturn dX5_isAhead_136 rfl rfl (by decide) (by decide) ?_)
        exact hbf h (by simp; exact (nI_leI (by omega) (by omega)).mp c_128)
      · refine z_iconst (v := 1) dX5_isAhead_131 (by decide) (z_goto 136 dX5_isAhead_132 (by decide) (z_zreturn dX5_isAhead_136 rfl rfl (by decide) (by decide) ?_))
        exact hbt h (by simp; exact Nat.not_le.mp fun q => c_128 ((nI_leI (by omega) (by omega)).mpr q))
    refine z_iload3 dX5_isAhead_86 (z_if_le 126 dX5_isAhead_87 (by decide) (fun c_87 => ?_) (fun c_87 => ?_))
    · exact last fun q => Int32.not_lt.mpr c_87 q.1
    · refine z_aload0 dX5_isAhead_90 (z_getP (v := some (107, 0)) fl_X5_121 dX5_isAhead_91 rfl rfl (hM 56 rfl) (z_iload1 dX5_isAhead_94 (z_ialdv dX5_isAhead_95 rfl ⟨hx, ha, Nat.le_of_ble_eq_true rfl⟩ (hR.col 15 _ (by decide)) (z_aload0 dX5_isAhead_96 (z_getP (v := some (107, 0)) fl_X5_121 dX5_isAhead_97 rfl rfl (hM 56 rfl) (z_iload2 dX5_isAhead_100 (z_ialdv dX5_isAhead_101 rfl ⟨hy, hb, Nat.le_of_ble_eq_true rfl⟩ (hR.col 15 _ (by decide)) (z_icmp_eq 126 dX5_isAhead_102 (by decide) (fun c_102 => ?_) (fun c_102 => ?_)))))))))
      · exact last fun q => q.2 c_102
      · have hr : 0 < r := Int32.not_le.mp c_87
        rw [if_pos ⟨hr, c_102⟩] at h
        refine z_aload0 dX5_isAhead_105 (z_getP (v := some (107, 0)) fl_X5_121 dX5_isAhead_106 rfl rfl (hM 56 rfl) (z_iload1 dX5_isAhead_109 (z_ialdv dX5_isAhead_110 rfl ⟨hx, ha, Nat.le_of_ble_eq_true rfl⟩ (hR.col 15 _ (by decide)) (z_aload0 dX5_isAhead_111 (z_getP (v := some (107, 0)) fl_X5_121 dX5_isAhead_112 rfl rfl (hM 56 rfl) (z_iload2 dX5_isAhead_115 (z_ialdv dX5_isAhead_116 rfl ⟨hy, hb, Nat.le_of_ble_eq_true rfl⟩ (hR.col 15 _ (by decide)) (z_icmp_ge 124 dX5_isAhead_117 (by decide) (fun c_117 => ?_) (fun c_117 => ?_)))))))))
        · refine z_iconst (v := 0) dX5_isAhead_124 (by decide) (z_zreturn dX5_isAhead_125 rfl rfl (by decide) (by decide) ?_)
          exact hbf h (by simp; exact c_117)
        · refine z_iconst (v := 1) dX5_isAhead_120 (by decide) (z_goto 125 dX5_isAhead_121 (by decide) (z_zreturn dX5_isAhead_125 rfl rfl (by decide) (by decide) ?_))
          exact hbt h (by simp; exact Int32.not_le.mp c_117)
  have mid : (¬ σ 16 a ≠ σ 16 b) → (¬ (r = 0 ∧ σ 14 a ≠ σ 14 b)) → Z RX5 cX5_isAhead (4, some .boolean, [], false, rmm 2 0 0) (Γ, C, μ, ad, Q) (0) (0) (μ) 62 [some (vr 50 0), some (vi x), some (vi y), some (vi r)] [] := by
    intro e1 e2
    refine z_iload3 dX5_isAhead_62 (z_iconst (v := 2) dX5_isAhead_63 (by decide) (z_icmp_ne 86 dX5_isAhead_64 (by decide) (fun c_64 => ?_) (fun c_64 => ?_)))
    · exact tail e1 e2 fun q => c_64 q.1
    · refine z_aload0 dX5_isAhead_67 (z_iload1 dX5_isAhead_68 (z_invV1 (md_X5_hasTicket _) cv_X5_444 rfl dX5_isAhead_69 rfl (by decide) (Rm.ofB rfl) (M_hasTicket hM hR hx ha (z_aload0 dX5_isAhead_72 (z_iload2 dX5_isAhead_73 (z_invV1 (md_X5_hasTicket _) cv_X5_444 rfl dX5_isAhead_74 rfl (by decide) (Rm.ofB rfl) (M_hasTicket hM hR hy hb (z_icmp_eq 86 dX5_isAhead_77 (by decide) (fun c_77 => ?_) (fun c_77 => ?_)))))))))
      · exact tail e1 e2 fun q => q.2 (bI_ne.mp c_77)
      · rw [aheadB, if_neg e1, if_neg e2, if_pos ⟨c_64, fun q => c_77 (by rw [q])⟩] at h
        refine z_aload0 dX5_isAhead_80 (z_iload1 dX5_isAhead_81 (z_invV1 (md_X5_hasTicket _) cv_X5_444 rfl dX5_isAhead_82 rfl (by decide) (Rm.ofB rfl) (M_hasTicket hM hR hx ha (z_zreturn dX5_isAhead_85 rfl (bI_nar _) (by decide) (by decide) ?_))))
        exact h
  refine z_aload0 dX5_isAhead_0 (z_getP (v := some (109, 0)) fl_X5_127 dX5_isAhead_1 rfl rfl (hM 58 rfl) (z_iload1 dX5_isAhead_4 (z_zaldv dX5_isAhead_5 rfl ⟨hx, ha, Nat.le_of_ble_eq_true rfl⟩ (hR.col 16 _ (by decide)) (z_aload0 dX5_isAhead_6 (z_getP (v := some (109, 0)) fl_X5_127 dX5_isAhead_7 rfl rfl (hM 58 rfl) (z_iload2 dX5_isAhead_10 (z_zaldv dX5_isAhead_11 rfl ⟨hy, hb, Nat.le_of_ble_eq_true rfl⟩ (hR.col 16 _ (by decide)) (z_icmp_eq 22 dX5_isAhead_12 (by decide) (fun c_12 => ?_) (fun c_12 => ?_)))))))))
  · have e1 : ¬ σ 16 a ≠ σ 16 b := fun q => q c_12
    refine z_iload3 dX5_isAhead_22 (z_if_ne 62 dX5_isAhead_23 (by decide) (fun c_23 => ?_) (fun c_23 => ?_))
    · exact mid e1 fun q => c_23 q.1
    · refine z_aload0 dX5_isAhead_26 (z_getP (v := some (106, 0)) fl_X5_118 dX5_isAhead_27 rfl rfl (hM 55 rfl) (z_iload1 dX5_isAhead_30 (z_ialdv dX5_isAhead_31 rfl ⟨hx, ha, Nat.le_of_ble_eq_true rfl⟩ (hR.col 14 _ (by decide)) (z_aload0 dX5_isAhead_32 (z_getP (v := some (106, 0)) fl_X5_118 dX5_isAhead_33 rfl rfl (hM 55 rfl) (z_iload2 dX5_isAhead_36 (z_ialdv dX5_isAhead_37 rfl ⟨hy, hb, Nat.le_of_ble_eq_true rfl⟩ (hR.col 14 _ (by decide)) (z_icmp_eq 62 dX5_isAhead_38 (by decide) (fun c_38 => ?_) (fun c_38 => ?_)))))))))
      · exact mid e1 fun q => q.2 c_38
      · rw [aheadB, if_neg e1, if_pos ⟨c_23, c_38⟩] at h
        refine z_aload0 dX5_isAhead_41 (z_getP (v := some (106, 0)) fl_X5_118 dX5_isAhead_42 rfl rfl (hM 55 rfl) (z_iload1 dX5_isAhead_45 (z_ialdv dX5_isAhead_46 rfl ⟨hx, ha, Nat.le_of_ble_eq_true rfl⟩ (hR.col 14 _ (by decide)) (z_aload0 dX5_isAhead_47 (z_getP (v := some (106, 0)) fl_X5_118 dX5_isAhead_48 rfl rfl (hM 55 rfl) (z_iload2 dX5_isAhead_51 (z_ialdv dX5_isAhead_52 rfl ⟨hy, hb, Nat.le_of_ble_eq_true rfl⟩ (hR.col 14 _ (by decide)) (z_icmp_ge 60 dX5_isAhead_53 (by decide) (fun c_53 => ?_) (fun c_53 => ?_)))))))))
        · refine z_iconst (v := 0) dX5_isAhead_60 (by decide) (z_zreturn dX5_isAhead_61 rfl rfl (by decide) (by decide) ?_)
          exact hbf h (by simp; exact c_53)
        · refine z_iconst (v := 1) dX5_isAhead_56 (by decide) (z_goto 61 dX5_isAhead_57 (by decide) (z_zreturn dX5_isAhead_61 rfl rfl (by decide) (by decide) ?_))
          exact hbt h (by simp; exact Int32.not_le.mp c_53)
  · rw [aheadB, if_pos c_12] at h
    refine z_aload0 dX5_isAhead_15 (z_getP (v := some (109, 0)) fl_X5_127 dX5_isAhead_16 rfl rfl (hM 58 rfl) (z_iload1 dX5_isAhead_19 (z_zaldv dX5_isAhead_20 rfl ⟨hx, ha, Nat.le_of_ble_eq_true rfl⟩ (hR.col 16 _ (by decide)) (z_zreturn dX5_isAhead_21 rfl (by rcases hu with q | q <;> rw [q] <;> rfl) (by decide) (by decide) ?_))))
    rcases hu with q | q
    · rw [q] at h ⊢; exact h
    · rw [q] at h ⊢; exact h
theorem M_takes {a : Nat} {x d : Int32} (hM : MOK μ) (hR : RepM σ μ) (hx : x = nI a) (ha : a < 120) (h : Q (rI (costF σ d a)) μ) : Ct RX5 cX5_takes (3, some .int, [], false, rmm 2 0 0) [vr 50 0, vi d, vi x] μ Q := by
  refine Ct.of (ls := [some (vr 50 0), some (vi d), some (vi x)]) rfl fun Γ C ad => ?_
  unfold costF at h
  have e : gI μ 116 0 (7 * a + 2) = σ 2 a := hR.col 2 a (by decide)
  refine z_iload1 dX5_takes_0 (z_if_ne 21 dX5_takes_1 (by decide) (fun c_1 => ?_) (fun c_1 => ?_))
  · rw [if_neg c_1] at h
    refine z_iload1 dX5_takes_21 (z_iconst (v := 1) dX5_takes_22 (by decide) (z_icmp_ne 37 dX5_takes_23 (by decide) (fun c_23 => ?_) (fun c_23 => ?_)))
    · rw [if_neg c_23] at h
      refine z_iload1 dX5_takes_37 (z_iconst (v := 2) dX5_takes_38 (by decide) (z_icmp_ne 47 dX5_takes_39 (by decide) (fun c_39 => ?_) (fun c_39 => ?_)))
      · rw [if_neg c_39] at h
        refine z_iconst (v := 1) dX5_takes_47 (by decide) (z_ireturn dX5_takes_48 rfl (by decide) (by decide) ?_)
        exact h
      · rw [if_pos c_39] at h
        refine z_bipush (v := 6) dX5_takes_42 (by decide) (z_goto 48 dX5_takes_44 (by decide) (z_ireturn dX5_takes_48 rfl (by decide) (by decide) ?_))
        exact h
    · rw [if_pos c_23] at h
      refine z_iconst (v := 3) dX5_takes_26 (by decide) (z_aload0 dX5_takes_27 (z_getP (v := some (113, 0)) fl_X5_139 dX5_takes_28 rfl rfl (hM 62 rfl) (z_iload2 dX5_takes_31 (z_ialdv dX5_takes_32 rfl ⟨hx, ha, Nat.le_of_ble_eq_true rfl⟩ (hR.col 20 _ (by decide)) (z_iadd dX5_takes_33 (z_goto 48 dX5_takes_34 (by decide) (z_ireturn dX5_takes_48 rfl (by decide) (by decide) ?_)))))))
      exact h
  · rw [if_pos c_1] at h
    refine z_aload0 dX5_takes_4 (z_iload2 dX5_takes_5 (z_iconst (v := 2) dX5_takes_6 (by decide) (z_invV2 (md_X5_now _) cv_X5_434 rfl dX5_takes_7 rfl (by decide) (Rm.ofB rfl) (M_now (w := 2) hM hx rfl (by omega) (z_if_ge 17 dX5_takes_10 (by decide) (fun c_10 => ?_) (fun c_10 => ?_))))))
    · rw [e] at c_10
      rw [if_neg (Int32.not_lt.mpr c_10)] at h
      refine z_iconst (v := 1) dX5_takes_17 (by decide) (z_goto 48 dX5_takes_18 (by decide) (z_ireturn dX5_takes_48 rfl (by decide) (by decide) ?_))
      exact h
    · rw [e] at c_10
      rw [if_pos (Int32.not_le.mp c_10)] at h
      refine z_iconst (v := 2) dX5_takes_13 (by decide) (z_goto 48 dX5_takes_14 (by decide) (z_ireturn dX5_takes_48 rfl (by decide) (by decide) ?_))
      exact h
theorem M_canPrint (hR : RepM σ μ) (h : Q (rI (bI (decide (0 < σ 7 1) && !decide (σ 34 16 ≤ σ 7 0 ∧ σ 7 0 ≤ σ 34 17) && decide (σ 7 4 < 150)))) μ) : Ct RX5 cX5_canPrint (1, some .boolean, [], false, rmm 2 0 0) [vr 50 0] μ Q := by
  refine Ct.of (ls := [some (vr 50 0)]) rfl fun Γ C ad => ?_
  refine z_aload0 dX5_canPrint_0 (z_getIv fl_X5_406 dX5_canPrint_1 rfl rfl (hR.s7 1 (by decide)) (z_if_le 39 dX5_canPrint_4 (by decide) (fun c_4 => ?_) (fun c_4 => ?_)))
  · refine z_iconst (v := 0) dX5_canPrint_39 (by decide) (z_zreturn dX5_canPrint_40 rfl rfl (by decide) (by decide) ?_)
    exact hbf h (by rw [decide_eq_false (Int32.not_lt.mpr c_4)]; rfl)
  · refine z_aload0 dX5_canPrint_7 (z_getIv fl_X5_314 dX5_canPrint_8 rfl rfl (hR.s7 0 (by decide)) (z_aload0 dX5_canPrint_11 (z_getIv fl_X5_91 dX5_canPrint_12 rfl rfl (hR.s34 16 (by decide)) (z_aload0 dX5_canPrint_15 (z_getIv fl_X5_409 dX5_canPrint_16 rfl rfl (hR.s34 17 (by decide)) (z_invS3 (md_X5_in _) cs_X5_317 dX5_canPrint_19 rfl (by decide) (Rm.ofB rfl) (M_in (z_if_ne 39 dX5_canPrint_22 (by decide) (fun c_22 => ?_) (fun c_22 => ?_)))))))))
    · refine z_iconst (v := 0) dX5_canPrint_39 (by decide) (z_zreturn dX5_canPrint_40 rfl rfl (by decide) (by decide) ?_)
      exact hbf h (by rw [bI_n0 c_22]; simp)
    · refine z_aload0 dX5_canPrint_25 (z_getIv fl_X5_415 dX5_canPrint_26 rfl rfl (hR.s7 4 (by decide)) (z_sipush (v := 150) dX5_canPrint_29 (by decide) (z_icmp_ge 39 dX5_canPrint_32 (by decide) (fun c_32 => ?_) (fun c_32 => ?_))))
      · refine z_iconst (v := 0) dX5_canPrint_39 (by decide) (z_zreturn dX5_canPrint_40 rfl rfl (by decide) (by decide) ?_)
        exact hbf h (by rw [decide_eq_false (p := σ 7 4 < 150) (Int32.not_lt.mpr c_32)]; simp)
      · refine z_iconst (v := 1) dX5_canPrint_35 (by decide) (z_goto 40 dX5_canPrint_36 (by decide) (z_zreturn dX5_canPrint_40 rfl rfl (by decide) (by decide) ?_))
        exact hbt h (by rw [bI_0.mp c_22, decide_eq_true (Int32.not_le.mp c_4), decide_eq_true (p := σ 7 4 < 150) (Int32.not_le.mp c_32)]; rfl)
theorem M_inState {lo hi : Int32} (hM : MOK μ) (hR : RepM σ μ) {n : Nat} (hn : σ 34 2 = nI n) (hn2 : n ≤ 120) (h : Q (rI (inStF σ lo hi)) μ) : Ct RX5 cX5_inState (5, some .int, [], false, rmm 2 0 0) [vr 50 0, vi lo, vi hi] μ Q := by
  refine Ct.of (ls := [some (vr 50 0), some (vi lo), some (vi hi), none, none]) rfl fun Γ C ad => ?_
  have e : ∀ a, gI μ 116 0 (7 * a + 0) = σ 0 a := fun a => hR.col 0 a (by decide)
  refine z_iconst (v := 0) dX5_inState_0 (by decide) (z_istore3 dX5_inState_1 (z_iconst (v := 0) dX5_inState_2 (by decide) (z_istore4 dX5_inState_3 ?_)))
  refine loopN (P := fun k => Z RX5 cX5_inState (5, some .int, [], false, rmm 2 0 0) (Γ, C, μ, ad, Q) (0) (0) (μ) 5 [some (vr 50 0), some (vi lo), some (vi hi), some (vi (cntB (fun a => decide (lo ≤ σ 0 a ∧ σ 0 a ≤ hi)) k)), some (vi (nI k))] []) n ?_ ?_ 0 (Nat.zero_le _)
  · refine z_iload4 dX5_inState_5 (z_aload0 dX5_inState_7 (z_getIv fl_X5_412 dX5_inState_8 rfl rfl (hR.s34 2 (by decide)) (z_icmp_ge 43 dX5_inState_11 (by decide) (fun _ => z_iload3 dX5_inState_43 (z_ireturn dX5_inState_44 rfl (by decide) (by decide) ?_)) (fun c => absurd (lpt hn) c))))
    rw [inStF, hn, tn_nI (by omega)] at h
    exact h
  · intro k hk ih
    refine z_iload4 dX5_inState_5 (z_aload0 dX5_inState_7 (z_getIv fl_X5_412 dX5_inState_8 rfl rfl (hR.s34 2 (by decide)) (z_icmp_ge 43 dX5_inState_11 (by decide) (fun c => absurd c (lpf hn hk (by omega))) (fun _ => z_iload3 dX5_inState_14 (z_aload0 dX5_inState_15 (z_iload4 dX5_inState_16 (z_iconst (v := 0) dX5_inState_18 (by decide) (z_invV2 (md_X5_now _) cv_X5_434 rfl dX5_inState_19 rfl (by decide) (Rm.ofB rfl) (M_now (w := 0) hM rfl rfl (by omega) (z_iload1 dX5_inState_22 (z_iload2 dX5_inState_23 (z_invS3 (md_X5_in _) cs_X5_317 dX5_inState_24 rfl (by decide) (Rm.ofB rfl) (M_in (z_if_eq 34 dX5_inState_27 (by decide) (fun c_27 => ?_) (fun c_27 => ?_)))))))))))))))
    · rw [e k] at c_27
      refine z_iconst (v := 0) dX5_inState_34 (by decide) (z_iadd dX5_inState_35 (z_istore3 dX5_inState_36 (z_iinc4 dX5_inState_37 (inc1 k) (z_goto 5 dX5_inState_40 (by decide) ?_))))
      rw [cntB, bI_0.mp c_27] at ih
      exact ih
    · rw [e k] at c_27
      refine z_iconst (v := 1) dX5_inState_30 (by decide) (z_goto 35 dX5_inState_31 (by decide) (z_iadd dX5_inState_35 (z_istore3 dX5_inState_36 (z_iinc4 dX5_inState_37 (inc1 k) (z_goto 5 dX5_inState_40 (by decide) ?_)))))
      rw [cntB, bI_n0 c_27] at ih
      exact ih
theorem M_ends {lo hi : Int32} (hM : MOK μ) (hR : RepM σ μ) {n : Nat} (hn : σ 7 4 = nI n) (hn2 : n ≤ 150) (h : Q (rI (endsF σ lo hi)) (sI μ 50 0 0 0)) : Ct RX5 cX5_ends (5, some .int, [], false, rmm 2 0 0) [vr 50 0, vi lo, vi hi] μ Q := by
  refine Ct.of (ls := [some (vr 50 0), some (vi lo), some (vi hi), none, none]) rfl fun Γ C ad => ?_
  have hb : ∀ k, k < n → k < tn (σ 7 4) := fun k hk => by rw [hn, tn_nI (by omega)]; exact hk
  refine z_aload0 dX5_ends_0 (z_iconst (v := 0) dX5_ends_1 (by decide) (z_putI fl_X5_178 dX5_ends_2 rfl rfl ⟨rfl, rfl⟩ (z_iconst (v := 0) dX5_ends_5 (by decide) (z_istore3 dX5_ends_6 (z_iconst (v := 0) dX5_ends_7 (by decide) (z_istore4 dX5_ends_8 ?_))))))
  refine loopN (P := fun k => Z RX5 cX5_ends (5, some .int, [], false, rmm 2 0 0) (Γ, C, μ, ad, Q) (0) (0) (sI μ 50 0 0 0) 10 [some (vr 50 0), some (vi lo), some (vi hi), some (vi (cntB (fun b => decide (lo ≤ σ 10 b ∧ σ 10 b ≤ hi)) k)), some (vi (nI k))] []) n ?_ ?_ 0 (Nat.zero_le _)
  · refine z_iload4 dX5_ends_10 (z_aload0 dX5_ends_12 (z_getIv fl_X5_415 dX5_ends_13 rfl rfl (hR.s7 4 (by decide)) (z_icmp_ge 48 dX5_ends_16 (by decide) (fun _ => z_iload3 dX5_ends_48 (z_ireturn dX5_ends_49 rfl (by decide) (by decide) ?_)) (fun c => absurd (lpt hn) c))))
    rw [endsF, hn, tn_nI (by omega)] at h
    exact h
  · intro k hk ih
    refine z_iload4 dX5_ends_10 (z_aload0 dX5_ends_12 (z_getIv fl_X5_415 dX5_ends_13 rfl rfl (hR.s7 4 (by decide)) (z_icmp_ge 48 dX5_ends_16 (by decide) (fun c => absurd c (lpf hn hk (by omega))) (fun _ => z_iload3 dX5_ends_19 (z_aload0 dX5_ends_20 (z_getP (v := some (120, 0)) fl_X5_157 dX5_ends_21 rfl rfl (hM 69 rfl) (z_iload4 dX5_ends_24 (z_ialdv dX5_ends_26 rfl ⟨rfl, Nat.lt_of_lt_of_le hk hn2, Nat.le_of_ble_eq_true rfl⟩ (hR.bk 10 _ (by decide) (hb k hk)) (z_iload1 dX5_ends_27 (z_iload2 dX5_ends_28 (z_invS3 (md_X5_in _) cs_X5_317 dX5_ends_29 rfl (by decide) (Rm.ofB rfl) (M_in (z_if_eq 39 dX5_ends_32 (by decide) (fun c_32 => ?_) (fun c_32 => ?_))))))))))))))
    · refine z_iconst (v := 0) dX5_ends_39 (by decide) (z_iadd dX5_ends_40 (z_istore3 dX5_ends_41 (z_iinc4 dX5_ends_42 (inc1 k) (z_goto 10 dX5_ends_45 (by decide) ?_))))
      rw [cntB, bI_0.mp c_32] at ih
      exact ih
    · refine z_iconst (v := 1) dX5_ends_35 (by decide) (z_goto 40 dX5_ends_36 (by decide) (z_iadd dX5_ends_40 (z_istore3 dX5_ends_41 (z_iinc4 dX5_ends_42 (inc1 k) (z_goto 10 dX5_ends_45 (by decide) ?_)))))
      rw [cntB, bI_n0 c_32] at ih
      exact ih
end M2
