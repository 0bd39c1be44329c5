/-! the Reader: the making of conditions -/
section R5
variable {μ μ' : Mem} {Q : Res → Mem → Prop} {T : Nat → Int32} {e a b : Nat}
theorem X_cdInit {p j : Nat} (h : Q rV μ) : Ct RX7 cX7_init (1, none, [], true, rmm 1 0 0) [vr p j] μ Q := by
  refine Ct.of (ls := [some (vr p j)]) rfl fun Γ C ad => ?_
  refine z_aload0 dX7_init_0 (z_objInit co_X7_1 dX7_init_1 (by decide) (by decide) (z_return dX7_init_4 rfl (Nat.le_of_ble_eq_true rfl) (Nat.le_of_ble_eq_true rfl) ?_))
  exact h
theorem X_ftInit {j : Nat} {x y z : Int32} (hy : narrow .char (.int y) = .int y ∧ fits .char (.int y) = true) (h : Q rV (sI (sI (sI μ 29 j 0 x) 29 j 2 y) 29 j 1 z)) : Ct RX8 cX8_init (4, none, [], true, rmm 2 0 0) [vr 29 j, vi x, vi y, vi z] μ Q := by
  refine Ct.of (ls := [some (vr 29 j), some (vi x), some (vi y), some (vi z)]) rfl fun Γ C ad => ?_
  refine z_aload0 dX8_init_0 (z_invI0 (md_X7_init _) ci_X8_1 dX8_init_1 rfl (Nat.le_of_ble_eq_true rfl) (Rm.ofB rfl) (X_cdInit (z_aload0 dX8_init_4 (z_iload1 dX8_init_5 (z_putFI ff_X8_7 rfl dX8_init_6 rfl rfl ⟨rfl, rfl⟩ (z_aload0 dX8_init_9 (z_iload2 dX8_init_10 (z_putFI ff_X8_13 rfl dX8_init_11 rfl rfl hy (z_aload0 dX8_init_14 (z_iload3 dX8_init_15 (z_putFI ff_X8_17 rfl dX8_init_16 rfl rfl ⟨rfl, rfl⟩ (z_return dX8_init_19 rfl (Nat.le_of_ble_eq_true rfl) (Nat.le_of_ble_eq_true rfl) ?_))))))))))))
  exact h
theorem X_ntInit {j : Nat} {r : Option (Nat × Nat)} (h : Q rV (sP μ 30 j 0 r)) : Ct RX9 cX9_init (2, none, [], true, rmm 2 0 0) [vr 30 j, vo r] μ Q := by
  refine Ct.of (ls := [some (vr 30 j), some (vo r)]) rfl fun Γ C ad => ?_
  refine z_aload0 dX9_init_0 (z_invI0 (md_X7_init _) ci_X9_1 dX9_init_1 rfl (Nat.le_of_ble_eq_true rfl) (Rm.ofB rfl) (X_cdInit (z_aload0 dX9_init_4 (z_aload1 dX9_init_5 (z_putFP ff_X9_7 rfl dX9_init_6 rfl rfl (z_return dX9_init_9 rfl (Nat.le_of_ble_eq_true rfl) (Nat.le_of_ble_eq_true rfl) ?_))))))
  exact h
theorem X_prInit {j : Nat} {r r' : Option (Nat × Nat)} {b : Bool} (h : Q rV (sI (sP (sP μ 31 j 0 r) 31 j 1 r') 31 j 2 (bI b))) : Ct RX10 cX10_init (4, none, [], true, rmm 2 0 0) [vr 31 j, vo r, vo r', vi (bI b)] μ Q := by
  refine Ct.of (ls := [some (vr 31 j), some (vo r), some (vo r'), some (vi (bI b))]) rfl fun Γ C ad => ?_
  refine z_aload0 dX10_init_0 (z_invI0 (md_X7_init _) ci_X10_1 dX10_init_1 rfl (Nat.le_of_ble_eq_true rfl) (Rm.ofB rfl) (X_cdInit (z_aload0 dX10_init_4 (z_aload1 dX10_init_5 (z_putFP ff_X10_7 rfl dX10_init_6 rfl rfl (z_aload0 dX10_init_9 (z_aload2 dX10_init_10 (z_putFP ff_X10_13 rfl dX10_init_11 rfl rfl (z_aload0 dX10_init_14 (z_iload3 dX10_init_15 (z_putFI ff_X10_16 rfl dX10_init_16 rfl rfl (bI_put _) (z_return dX10_init_19 rfl (Nat.le_of_ble_eq_true rfl) (Nat.le_of_ble_eq_true rfl) ?_))))))))))))
  exact h
theorem X_clInit {j : Nat} {x y : Int32} {r : Option (Nat × Nat)} (h : Q rV (sP (sI (sI μ 28 j 0 x) 28 j 1 y) 28 j 2 r)) : Ct RX6 cX6_init (4, none, [], true, rmm 1 0 0) [vr 28 j, vi x, vi y, vo r] μ Q := by
  refine Ct.of (ls := [some (vr 28 j), some (vi x), some (vi y), some (vo r)]) rfl fun Γ C ad => ?_
  refine z_aload0 dX6_init_0 (z_objInit co_X6_1 dX6_init_1 (by decide) (by decide) (z_aload0 dX6_init_4 (z_iload1 dX6_init_5 (z_putFI ff_X6_7 rfl dX6_init_6 rfl rfl ⟨rfl, rfl⟩ (z_aload0 dX6_init_9 (z_iload2 dX6_init_10 (z_putFI ff_X6_13 rfl dX6_init_11 rfl rfl ⟨rfl, rfl⟩ (z_aload0 dX6_init_14 (z_aload3 dX6_init_15 (z_putFP ff_X6_16 rfl dX6_init_16 rfl rfl (z_return dX6_init_19 rfl (Nat.le_of_ble_eq_true rfl) (Nat.le_of_ble_eq_true rfl) ?_)))))))))))
  exact h
end R5
