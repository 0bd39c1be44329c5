/-! the Reader: a law's making -/
/-- references copied -/
def cpP (μ : Mem) (p i q j : Nat) : Nat → Mem
  | 0 => μ
  | N + 1 => sP (cpP μ p i q j N) p i N (gP μ q j N)
section R14
variable {μ μ' : Mem} {Q : Res → Mem → Prop} {T : Nat → Int32} {e a b p i q j N : Nat}
theorem cpP_P (x y z : Nat) : gP (cpP μ p i q j N) x y z = if x = p ∧ y = i ∧ z < N then gP μ q j z else gP μ x y z := by
  induction N with
  | zero => rw [if_neg (by omega)]; rfl
  | succ N ih =>
    rw [cpP, gP_sP, ih]
    by_cases h : x = p ∧ y = i ∧ z = N
    · rw [if_pos h, if_pos ⟨h.1, h.2.1, by omega⟩, h.2.2]
    · rw [if_neg h]
      by_cases h2 : x = p ∧ y = i ∧ z < N
      · rw [if_pos h2, if_pos ⟨h2.1, h2.2.1, by omega⟩]
      · rw [if_neg h2, if_neg (fun q => h2 ⟨q.1, q.2.1, by
          have : ¬ z = N := fun w => h ⟨q.1, q.2.1, w⟩
          omega⟩)]
theorem cpP_I (x y z : Nat) : gI (cpP μ p i q j N) x y z = gI μ x y z := by
  induction N with
  | zero => rfl
  | succ N ih => exact ih
theorem cpP_J (x y z : Nat) : gJ (cpP μ p i q j N) x y z = gJ μ x y z := by
  induction N with
  | zero => rfl
  | succ N ih => exact ih
theorem cpP_C (x : Nat) : gC (cpP μ p i q j N) x = gC μ x := by
  induction N with
  | zero => rfl
  | succ N ih => exact ih
theorem cpP_L (x y : Nat) : gL (cpP μ p i q j N) x y = gL μ x y := by
  induction N with
  | zero => rfl
  | succ N ih => exact ih
theorem cpP_up : UpAt μ (cpP μ p i q j N) p i := ⟨cpP_C, fun p' i' h => ⟨cpP_I p' i', fun k => by rw [cpP_P, if_neg (fun z => h ⟨z.1, z.2.1⟩)], cpP_J p' i', cpP_L p' i'⟩⟩
def lwM (μ : Mem) (P A g N : Nat) (day : Int32) : Mem := cpP (sP (nw (sI (sI μ P g 0 day) P g 1 (nI N)) A N) P g 2 (some (A, gC μ A))) A (gC μ A) 9 0 N
theorem X_lwInit {g : Nat} {day : Int32} (hN : N ≤ 16) (hs : ∀ j, j < N → ∃ h, gP μ 9 0 j = some (28, h)) (h : Q rV (lwM μ 26 27 g N day)) : Ct RX11 cX11_init (4, none, [], true, rmm 2 1 16) [vr 26 g, vi day, vr 9 0, vi (nI N)] μ Q := by
  refine Ct.of (ls := [some (vr 26 g), some (vi day), some (vr 9 0), some (vi (nI N))]) rfl fun Γ C ad => ?_
  have e2 : gP (sP (nw (sI (sI μ 26 g 0 day) 26 g 1 (nI N)) 27 N) 26 g 2 (some (27, gC μ 27))) 26 g 2 = some (27, gC μ 27) := by rw [gP_sP, if_pos ⟨rfl, rfl, rfl⟩]
  have hL : gL (sP (nw (sI (sI μ 26 g 0 day) 26 g 1 (nI N)) 27 N) 26 g 2 (some (27, gC μ 27))) 27 (gC μ 27) = N := by
    show gL (nw (sI (sI μ 26 g 0 day) 26 g 1 (nI N)) 27 N) 27 (gC μ 27) = N
    rw [gL_nw _ _ _ _ _ (fun z => absurd (Or.inl rfl) z), if_pos ⟨rfl, rfl⟩]
  refine z_aload0 dX11_init_0 (z_objInit co_X11_3 dX11_init_1 (by decide) (by decide) (z_aload0 dX11_init_4 (z_iload1 dX11_init_5 (z_putFI ff_X11_9 rfl dX11_init_6 rfl rfl ⟨rfl, rfl⟩ (z_aload0 dX11_init_9 (z_iload3 dX11_init_10 (z_putFI ff_X11_15 rfl dX11_init_11 rfl rfl ⟨rfl, rfl⟩ (z_aload0 dX11_init_14 (z_iload3 dX11_init_15 (z_anew 27 q633 q146 dX11_init_16 rfl (by decide) rfl rfl (by omega) (fun z => absurd (Or.inl rfl) z) (leB rfl) (show 0 + N ≤ 16 by omega) (z_putFP ff_X11_20 rfl dX11_init_19 rfl rfl (z_aload2 dX11_init_22 (z_iconst (v := 0) dX11_init_23 (by decide) (z_aload0 dX11_init_24 (z_getP fl_X11_20 dX11_init_25 rfl rfl e2 (z_iconst (v := 0) dX11_init_28 (by decide) (z_iload3 dX11_init_29 (z_acopy (p := 27) (q := 9) (ci := 5) (N := N) (cpP (sP (nw (sI (sI μ 26 g 0 day) 26 g 1 (nI N)) 27 N) 26 g 2 (some (27, gC μ 27))) 27 (gC μ 27) 9 0 N) q634 q636 q635 q93 dX11_init_30 rfl rfl (by decide) rfl rfl rfl (by omega) (show N ≤ 16 from hN) (by rw [hL]; exact Nat.le_refl _) (fun j hj => by obtain ⟨h', g1⟩ := hs j hj; exact ⟨28, h', by rw [gP_sP, if_neg (by simp), gP_nw, if_neg (by simp)]; exact g1, rfl⟩) cpP_up (cpP_L _ _) (fun j => by rw [cpP_P]; simp) (leB rfl) (leB rfl) (z_return dX11_init_33 rfl (show _ ≤ 1 by omega) (show _ ≤ 16 by omega) ?_)))))))))))))))))))
  exact h
theorem X_lwInitB {g : Nat} {day : Int32} (hN : N ≤ 16) (hs : ∀ j, j < N → ∃ h, gP μ 9 0 j = some (28, h)) (h : Q rV (lwM μ 45 46 g N day)) : Ct RX11 cX11_init (4, none, [], true, rmm 2 1 16) [vr 45 g, vi day, vr 9 0, vi (nI N)] μ Q := by
  refine Ct.of (ls := [some (vr 45 g), some (vi day), some (vr 9 0), some (vi (nI N))]) rfl fun Γ C ad => ?_
  have e2 : gP (sP (nw (sI (sI μ 45 g 0 day) 45 g 1 (nI N)) 46 N) 45 g 2 (some (46, gC μ 46))) 45 g 2 = some (46, gC μ 46) := by rw [gP_sP, if_pos ⟨rfl, rfl, rfl⟩]
  have hL : gL (sP (nw (sI (sI μ 45 g 0 day) 45 g 1 (nI N)) 46 N) 45 g 2 (some (46, gC μ 46))) 46 (gC μ 46) = N := by
    show gL (nw (sI (sI μ 45 g 0 day) 45 g 1 (nI N)) 46 N) 46 (gC μ 46) = N
    rw [gL_nw _ _ _ _ _ (fun z => absurd (Or.inr rfl) z), if_pos ⟨rfl, rfl⟩]
  refine z_aload0 dX11_init_0 (z_objInit co_X11_3 dX11_init_1 (by decide) (by decide) (z_aload0 dX11_init_4 (z_iload1 dX11_init_5 (z_putFI ff_X11_9 rfl dX11_init_6 rfl rfl ⟨rfl, rfl⟩ (z_aload0 dX11_init_9 (z_iload3 dX11_init_10 (z_putFI ff_X11_15 rfl dX11_init_11 rfl rfl ⟨rfl, rfl⟩ (z_aload0 dX11_init_14 (z_iload3 dX11_init_15 (z_anew 46 q633 q146 dX11_init_16 rfl (by decide) rfl rfl (by omega) (fun z => absurd (Or.inr rfl) z) (leB rfl) (show 0 + N ≤ 16 by omega) (z_putFP ff_X11_20 rfl dX11_init_19 rfl rfl (z_aload2 dX11_init_22 (z_iconst (v := 0) dX11_init_23 (by decide) (z_aload0 dX11_init_24 (z_getP fl_X11_20 dX11_init_25 rfl rfl e2 (z_iconst (v := 0) dX11_init_28 (by decide) (z_iload3 dX11_init_29 (z_acopy (p := 46) (q := 9) (ci := 5) (N := N) (cpP (sP (nw (sI (sI μ 45 g 0 day) 45 g 1 (nI N)) 46 N) 45 g 2 (some (46, gC μ 46))) 46 (gC μ 46) 9 0 N) q634 q636 q635 q93 dX11_init_30 rfl rfl (by decide) rfl rfl rfl (by omega) (show N ≤ 16 from hN) (by rw [hL]; exact Nat.le_refl _) (fun j hj => by obtain ⟨h', g1⟩ := hs j hj; exact ⟨28, h', by rw [gP_sP, if_neg (by simp), gP_nw, if_neg (by simp)]; exact g1, rfl⟩) cpP_up (cpP_L _ _) (fun j => by rw [cpP_P]; simp) (leB rfl) (leB rfl) (z_return dX11_init_33 rfl (show _ ≤ 1 by omega) (show _ ≤ 16 by omega) ?_)))))))))))))))))))
  exact h
end R14
