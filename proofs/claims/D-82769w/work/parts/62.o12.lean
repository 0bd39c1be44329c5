/-! the Office: conditions -/
def yCond : MethodName := { cls := "PassportOffice$Cond", name := "holds", desc := "([I)Z" }
theorem cu_X9_8 : CU RX9 13 6 yCond yX8_holds 1 := ⟨_, rfl, q875, q868, q867, q870, q869, by decide, rfl⟩
theorem cu_X9_9 : CU RX9 13 7 yCond yX9_holds 1 := ⟨_, rfl, q875, q868, q867, q873, q872, by decide, rfl⟩
theorem cu_X9_10 : CU RX9 13 8 yCond yX10_holds 1 := ⟨_, rfl, q875, q868, q867, q876, q879, by decide, rfl⟩
theorem cu_X10_8 : CU RX10 20 6 yCond yX8_holds 1 := ⟨_, rfl, q878, q868, q867, q870, q869, by decide, rfl⟩
theorem cu_X10_9 : CU RX10 20 7 yCond yX9_holds 1 := ⟨_, rfl, q878, q868, q867, q873, q872, by decide, rfl⟩
theorem cu_X10_10 : CU RX10 20 8 yCond yX10_holds 1 := ⟨_, rfl, q878, q868, q867, q876, q879, by decide, rfl⟩
theorem cu_X11_8 : CU RX11 37 6 yCond yX8_holds 1 := ⟨_, rfl, q866, q868, q867, q870, q869, by decide, rfl⟩
theorem cu_X11_9 : CU RX11 37 7 yCond yX9_holds 1 := ⟨_, rfl, q866, q868, q867, q873, q872, by decide, rfl⟩
theorem cu_X11_10 : CU RX11 37 8 yCond yX10_holds 1 := ⟨_, rfl, q866, q868, q867, q876, q879, by decide, rfl⟩
/-- a tree of conditions answers so -/
def HC (μ : Mem) (d : Nat) (h : Nat × Nat) (b : Bool) : Prop := ∀ Q : Res → Mem → Prop, Q (rI (bI b)) μ →
  (h.1 = 29 → Ct RX8 cX8_holds (3, some .boolean, [], false, rmm d 0 0) [vr 29 h.2, vr 21 0] μ Q) ∧
  (h.1 = 30 → Ct RX9 cX9_holds (2, some .boolean, [], false, rmm d 0 0) [vr 30 h.2, vr 21 0] μ Q) ∧
  (h.1 = 31 → Ct RX10 cX10_holds (2, some .boolean, [], false, rmm d 0 0) [vr 31 h.2, vr 21 0] μ Q)
section HOLDS
variable {own : String} {cc : ByteArray} {E : Ex} {k n : Nat} {μ : Mem} {pc : Nat} {ls : List (Option AV)} {st : List AV}
theorem z_hc {idx a D K N d : Nat} {r : Option FieldType} {hs : List (Nat × Nat × Nat × Nat)} {i : Bool} {h : Nat × Nat} {b : Bool} (c8 : CU own idx 6 yCond yX8_holds 1) (c9 : CU own idx 7 yCond yX9_holds 1) (c10 : CU own idx 8 yCond yX10_holds 1) (hd : decode cc pc = .ok (.invokevirtual idx, 3)) (hh : HC μ d h b) (hp : h.1 = 29 ∨ h.1 = 30 ∨ h.1 = 31) (hD : d + 1 ≤ D) (hL : 2 * st.length + 3 + 11 ≤ 64) (hk : k ≤ K) (hn : n ≤ N)
    (kk : Z own cc (a, r, hs, i, rmm D K N) E k n μ (pc + 3) ls (vi (bI b) :: st)) : Z own cc (a, r, hs, i, rmm D K N) E k n μ pc ls (vr 21 0 :: vo (some h) :: st) := by
  obtain ⟨p, j⟩ := h
  rcases hp with q | q | q
  · have q : p = 29 := q
    subst q
    exact z_invU1 (md_X8_holds _) c8 rfl hd rfl (leB rfl) (Rm.gn hD (by omega) hk hn) ((hh _ kk).1 rfl)
  · have q : p = 30 := q
    subst q
    exact z_invU1 (md_X9_holds _) c9 rfl hd rfl (leB rfl) (Rm.gn hD (by omega) hk hn) ((hh _ kk).2.1 rfl)
  · have q : p = 31 := q
    subst q
    exact z_invU1 (md_X10_holds _) c10 rfl hd rfl (leB rfl) (Rm.gn hD (by omega) hk hn) ((hh _ kk).2.2 rfl)
end HOLDS
section O12
variable {μ μ' : Mem} {σ : Sg} {Λ : Lws} {Q : Res → Mem → Prop}
theorem CdX.pool {d : Nat} {h : Nat × Nat} {f : (Nat → Int32) → Bool} (c : CdX μ d h f) : h.1 = 29 ∨ h.1 = 30 ∨ h.1 = 31 := by
  cases d with
  | zero => exact absurd c id
  | succ d =>
    unfold CdX at c
    rcases c with c | c | c
    · exact Or.inl c.1
    · exact Or.inr (Or.inl c.1)
    · exact Or.inr (Or.inr c.1)
theorem X_factH {φ : Nat → Int32} {D j i : Nat} (hφ : ∀ j, j < 9 → gI μ 21 0 j = φ j) (hi : i < 9) (g0 : gI μ 29 j 0 = nI i) (h : Q (rI (bI (fcX φ i (gI μ 29 j 2) (gI μ 29 j 1)))) μ) : Ct RX8 cX8_holds (3, some .boolean, [], false, rmm D 0 0) [vr 29 j, vr 21 0] μ Q := by
  refine Ct.of (ls := [some (vr 29 j), some (vr 21 0), none]) rfl fun Γ C ad => ?_
  unfold fcX at h
  refine z_aload1 dX8_holds_0 (z_aload0 dX8_holds_1 (z_getIv fl_X8_7 dX8_holds_2 rfl rfl (g0) (z_ialdv dX8_holds_5 rfl ⟨rfl, (show i < 9 from hi), Nat.le_of_ble_eq_true rfl⟩ (hφ i hi) (z_istore2 dX8_holds_6 (z_aload0 dX8_holds_7 (z_getI fl_X8_13 dX8_holds_8 rfl rfl (z_bipush (v := 60) dX8_holds_11 (by decide) (z_icmp_ne 32 dX8_holds_13 (by decide) (fun c_13 => ?_) (fun c_13 => ?_)))))))))
  · rw [if_neg c_13] at h
    refine z_aload0 dX8_holds_32 (z_getI fl_X8_13 dX8_holds_33 rfl rfl (z_bipush (v := 62) dX8_holds_36 (by decide) (z_icmp_ne 57 dX8_holds_38 (by decide) (fun c_38 => ?_) (fun c_38 => ?_))))
    · rw [if_neg c_38] at h
      refine z_iload2 dX8_holds_57 (z_if_eq 65 dX8_holds_58 (by decide) (fun c_58 => ?_) (fun c_58 => ?_))
      · refine z_iconst (v := 0) dX8_holds_65 (by decide) (z_zreturn dX8_holds_66 rfl rfl (Nat.le_of_ble_eq_true rfl) (Nat.le_of_ble_eq_true rfl) ?_)
        exact hbf h (decide_eq_false (nn c_58))
      · refine z_iconst (v := 1) dX8_holds_61 (by decide) (z_goto 66 dX8_holds_62 (by decide) (z_zreturn dX8_holds_66 rfl rfl (Nat.le_of_ble_eq_true rfl) (Nat.le_of_ble_eq_true rfl) ?_))
        exact hbt h (decide_eq_true c_58)
    · rw [if_pos c_38] at h
      refine z_iload2 dX8_holds_41 (z_aload0 dX8_holds_42 (z_getI fl_X8_17 dX8_holds_43 rfl rfl (z_icmp_le 53 dX8_holds_46 (by decide) (fun c_46 => ?_) (fun c_46 => ?_))))
      · refine z_iconst (v := 0) dX8_holds_53 (by decide) (z_goto 66 dX8_holds_54 (by decide) (z_zreturn dX8_holds_66 rfl rfl (Nat.le_of_ble_eq_true rfl) (Nat.le_of_ble_eq_true rfl) ?_))
        exact hbf h (decide_eq_false (Int32.not_lt.mpr c_46))
      · refine z_iconst (v := 1) dX8_holds_49 (by decide) (z_goto 66 dX8_holds_50 (by decide) (z_zreturn dX8_holds_66 rfl rfl (Nat.le_of_ble_eq_true rfl) (Nat.le_of_ble_eq_true rfl) ?_))
        exact hbt h (decide_eq_true (Int32.not_le.mp c_46))
  · rw [if_pos c_13] at h
    refine z_iload2 dX8_holds_16 (z_aload0 dX8_holds_17 (z_getI fl_X8_17 dX8_holds_18 rfl rfl (z_icmp_ge 28 dX8_holds_21 (by decide) (fun c_21 => ?_) (fun c_21 => ?_))))
    · refine z_iconst (v := 0) dX8_holds_28 (by decide) (z_goto 66 dX8_holds_29 (by decide) (z_zreturn dX8_holds_66 rfl rfl (Nat.le_of_ble_eq_true rfl) (Nat.le_of_ble_eq_true rfl) ?_))
      exact hbf h (decide_eq_false (Int32.not_lt.mpr c_21))
    · refine z_iconst (v := 1) dX8_holds_24 (by decide) (z_goto 66 dX8_holds_25 (by decide) (z_zreturn dX8_holds_66 rfl rfl (Nat.le_of_ble_eq_true rfl) (Nat.le_of_ble_eq_true rfl) ?_))
      exact hbt h (decide_eq_true (Int32.not_le.mp c_21))
theorem X_holds {φ : Nat → Int32} (hφ : ∀ j, j < 9 → gI μ 21 0 j = φ j) : ∀ (d : Nat) (h : Nat × Nat) (f : (Nat → Int32) → Bool), CdX μ d h f → HC μ d h (f φ)
  | 0, _, _, c => absurd c id
  | d + 1, h, f, c => by
    unfold CdX at c
    intro Q hQ
    rcases c with ⟨e, l, j, hj, g, hf⟩ | ⟨e, l, h', f', g, hc, hf⟩ | ⟨e, l, h1, h2, f1, f2, g1, g2, c1, c2, hf⟩
    · rw [hf] at hQ
      exact ⟨fun _ => X_factH hφ hj g hQ, fun q => by omega, fun q => by omega⟩
    · have ih := X_holds hφ d h' f' hc
      rw [hf] at hQ
      refine ⟨fun q => by omega, fun _ => ?_, fun q => by omega⟩
      refine (?_ : Ct RX9 cX9_holds (2, some .boolean, [], false, rmm (d + 1) 0 0) [vr 30 h.2, vr 21 0] μ Q)
      refine Ct.of (ls := [some (vr 30 h.2), some (vr 21 0)]) rfl fun Γ C ad => ?_
      refine z_aload0 dX9_holds_0 (z_getP fl_X9_7 dX9_holds_1 rfl rfl g (z_aload1 dX9_holds_4 (z_hc cu_X9_8 cu_X9_9 cu_X9_10 dX9_holds_5 ih hc.pool (Nat.le_refl _) (by simp) (Nat.le_refl _) (Nat.le_refl _) (z_if_ne 15 dX9_holds_8 (by decide) (fun c_8 => ?_) (fun c_8 => ?_)))))
      · refine z_iconst (v := 0) dX9_holds_15 (by decide) (z_zreturn dX9_holds_16 rfl rfl (Nat.le_of_ble_eq_true rfl) (Nat.le_of_ble_eq_true rfl) ?_)
        exact hbf hQ (by rw [bI_n0 c_8]; rfl)
      · refine z_iconst (v := 1) dX9_holds_11 (by decide) (z_goto 16 dX9_holds_12 (by decide) (z_zreturn dX9_holds_16 rfl rfl (Nat.le_of_ble_eq_true rfl) (Nat.le_of_ble_eq_true rfl) ?_))
        exact hbt hQ (by rw [bI_0.mp c_8]; rfl)
    · have i1 := X_holds hφ d h1 f1 c1
      have i2 := X_holds hφ d h2 f2 c2
      rw [hf] at hQ
      refine ⟨fun q => by omega, fun q => by omega, fun _ => ?_⟩
      refine (?_ : Ct RX10 cX10_holds (2, some .boolean, [], false, rmm (d + 1) 0 0) [vr 31 h.2, vr 21 0] μ Q)
      refine Ct.of (ls := [some (vr 31 h.2), some (vr 21 0)]) rfl fun Γ C ad => ?_
      refine z_aload0 dX10_holds_0 (z_getI fl_X10_16 dX10_holds_1 rfl rfl (z_if_eq 37 dX10_holds_4 (by decide) (fun c_4 => ?_) (fun c_4 => ?_)))
      · rw [if_pos c_4] at hQ
        refine z_aload0 dX10_holds_37 (z_getP fl_X10_7 dX10_holds_38 rfl rfl g1 (z_aload1 dX10_holds_41 (z_hc cu_X10_8 cu_X10_9 cu_X10_10 dX10_holds_42 i1 c1.pool (Nat.le_refl _) (by simp) (Nat.le_refl _) (Nat.le_refl _) (z_if_ne 59 dX10_holds_45 (by decide) (fun c_45 => ?_) (fun c_45 => ?_)))))
        · refine z_iconst (v := 1) dX10_holds_59 (by decide) (z_goto 64 dX10_holds_60 (by decide) (z_zreturn dX10_holds_64 rfl rfl (Nat.le_of_ble_eq_true rfl) (Nat.le_of_ble_eq_true rfl) ?_))
          exact hbt hQ (by rw [bI_n0 c_45]; rfl)
        · refine z_aload0 dX10_holds_48 (z_getP fl_X10_13 dX10_holds_49 rfl rfl g2 (z_aload1 dX10_holds_52 (z_hc cu_X10_8 cu_X10_9 cu_X10_10 dX10_holds_53 i2 c2.pool (Nat.le_refl _) (by simp) (Nat.le_refl _) (Nat.le_refl _) (z_if_eq 63 dX10_holds_56 (by decide) (fun c_56 => ?_) (fun c_56 => ?_)))))
          · refine z_iconst (v := 0) dX10_holds_63 (by decide) (z_zreturn dX10_holds_64 rfl rfl (Nat.le_of_ble_eq_true rfl) (Nat.le_of_ble_eq_true rfl) ?_)
            exact hbf hQ (by rw [bI_0.mp c_45, bI_0.mp c_56]; rfl)
          · refine z_iconst (v := 1) dX10_holds_59 (by decide) (z_goto 64 dX10_holds_60 (by decide) (z_zreturn dX10_holds_64 rfl rfl (Nat.le_of_ble_eq_true rfl) (Nat.le_of_ble_eq_true rfl) ?_))
            exact hbt hQ (by rw [bI_n0 c_56]; simp)
      · rw [if_neg c_4] at hQ
        refine z_aload0 dX10_holds_7 (z_getP fl_X10_7 dX10_holds_8 rfl rfl g1 (z_aload1 dX10_holds_11 (z_hc cu_X10_8 cu_X10_9 cu_X10_10 dX10_holds_12 i1 c1.pool (Nat.le_refl _) (by simp) (Nat.le_refl _) (Nat.le_refl _) (z_if_eq 33 dX10_holds_15 (by decide) (fun c_15 => ?_) (fun c_15 => ?_)))))
        · refine z_iconst (v := 0) dX10_holds_33 (by decide) (z_goto 64 dX10_holds_34 (by decide) (z_zreturn dX10_holds_64 rfl rfl (Nat.le_of_ble_eq_true rfl) (Nat.le_of_ble_eq_true rfl) ?_))
          exact hbf hQ (by rw [bI_0.mp c_15]; rfl)
        · refine z_aload0 dX10_holds_18 (z_getP fl_X10_13 dX10_holds_19 rfl rfl g2 (z_aload1 dX10_holds_22 (z_hc cu_X10_8 cu_X10_9 cu_X10_10 dX10_holds_23 i2 c2.pool (Nat.le_refl _) (by simp) (Nat.le_refl _) (Nat.le_refl _) (z_if_eq 33 dX10_holds_26 (by decide) (fun c_26 => ?_) (fun c_26 => ?_)))))
          · refine z_iconst (v := 0) dX10_holds_33 (by decide) (z_goto 64 dX10_holds_34 (by decide) (z_zreturn dX10_holds_64 rfl rfl (Nat.le_of_ble_eq_true rfl) (Nat.le_of_ble_eq_true rfl) ?_))
            exact hbf hQ (by rw [bI_0.mp c_26]; simp)
          · refine z_iconst (v := 1) dX10_holds_29 (by decide) (z_goto 64 dX10_holds_30 (by decide) (z_zreturn dX10_holds_64 rfl rfl (Nat.le_of_ble_eq_true rfl) (Nat.le_of_ble_eq_true rfl) ?_))
            exact hbt hQ (by rw [bI_n0 c_15, bI_n0 c_26]; rfl)
end O12
