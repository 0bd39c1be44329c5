/-! the Reader: signs, words -/
/-- the Reader's pointers -/
def XT (μ : Mem) : Prop := (∀ k, k < 7 → gP μ 2 0 k = some (x2L.getD k (0, 0))) ∧ (∀ k, k < 6 → gP μ 6 0 k = some (0, k)) ∧ (∀ k, k < 8 → gP μ 7 0 k = some (0, 6 + k)) ∧ (∀ k, k < 9 → gP μ 8 0 k = some (0, 14 + k))
section R1
variable {μ μ' : Mem} {Q : Res → Mem → Prop} {T : Nat → Int32} {e a b : Nat}
theorem XT.f2 (h : XT μ) (k : Nat) (hk : k < 7) : gP μ 2 0 k = some (x2L.getD k (0, 0)) := h.1 k hk
theorem XT.of (h : XT μ) (ep : ∀ p i k, (p = 2 ∨ p = 6 ∨ p = 7 ∨ p = 8) → gP μ' p i k = gP μ p i k) : XT μ' :=
  ⟨fun k hk => by rw [ep _ _ _ (by omega)]; exact h.1 k hk, fun k hk => by rw [ep _ _ _ (by omega)]; exact h.2.1 k hk, fun k hk => by rw [ep _ _ _ (by omega)]; exact h.2.2.1 k hk, fun k hk => by rw [ep _ _ _ (by omega)]; exact h.2.2.2 k hk⟩
/-- the Reader stands at a, in a text that ends at e -/
def RX (T : Nat → Int32) (e a : Nat) (μ : Mem) : Prop := XT μ ∧ gI μ 2 0 8 = nI e ∧ gI μ 2 0 9 = nI a ∧ a ≤ e ∧ e ≤ 400 ∧ ∀ j, j < 400 → gI μ 5 0 j = T j ∧ -128 ≤ T j ∧ T j ≤ 127
/-- what reading changes besides new cells -/
def S29 : Nat → Nat → Nat → Prop := fun p i k => p = 2 ∧ i = 0 ∧ k = 9
theorem RX.at (h : RX T e a μ) (hb : b ≤ e) : RX T e b (sI μ 2 0 9 (nI b)) := by
  obtain ⟨h1, h2, h3, h4, h5, h6⟩ := h
  exact ⟨h1.of fun _ _ _ _ => rfl, by rw [gI_sI, if_neg (by simp)]; exact h2, by rw [gI_sI, if_pos ⟨rfl, rfl, rfl⟩], hb, h5, fun j hj => by rw [gI_sI, if_neg (by simp)]; exact h6 j hj⟩
theorem X_fail {x : Nat} (hX : XT μ) (h : Q (rX 3 0) (sI μ 3 0 6 (nI x))) : Ct RX2 cX2_fail (2, none, [], false, rmm 1 0 0) [vr 2 0, vi (nI x)] μ Q := by
  refine Ct.of (ls := [some (vr 2 0), some (vi (nI x))]) rfl fun Γ C ad => ?_
  refine z_aload0 dX2_fail_0 (z_getP fl_X2_85 dX2_fail_1 rfl rfl (hX.f2 6 (by decide)) (z_iload1 dX2_fail_4 (z_putI fl_X2_89 dX2_fail_5 rfl rfl ⟨rfl, rfl⟩ (z_aload0 dX2_fail_8 (z_getP fl_X2_85 dX2_fail_9 rfl rfl (hX.f2 6 (by decide)) (z_athrow dX2_fail_12 rfl (Nat.le_of_ble_eq_true rfl) (Nat.le_of_ble_eq_true rfl) ?_))))))
  exact h
/-- the sign at a place, or none -/
def sgF (T : Nat → Int32) (e a : Nat) : Int32 := if a < e then T a &&& 255 else -1
theorem X_sign (hr : RX T e a μ) (h : ∀ μ', RX T e (skB T e a) μ' → Dif S29 μ μ' → Q (rI (sgF T e (skB T e a))) μ') : Ct RX2 cX2_sign (1, some .int, [], false, rmm 1 0 0) [vr 2 0] μ Q := by
  refine Ct.of (ls := [some (vr 2 0)]) rfl fun Γ C ad => ?_
  have key : ∀ m a μ', e - a = m → RX T e a μ' → Dif S29 μ μ' → (∀ μ2, RX T e (skB T e a) μ2 → Dif S29 μ μ2 → Q (rI (sgF T e (skB T e a))) μ2) → Z RX2 cX2_sign (1, some .int, [], false, rmm 1 0 0) (Γ, C, μ, ad, Q) (0) (0) (μ') 0 [some (vr 2 0)] [] := by
    intro m
    induction m with
    | zero =>
      intro a μ' hm hr' hD hq
      obtain ⟨hX, h8, h9, ha, he, hT⟩ := hr'
      have ea : a = e := by omega
      have es : skB T e a = a := skE_f (fun q => by omega)
      rw [es] at hq
      have hq' := hq μ' ⟨hX, h8, h9, ha, he, hT⟩ hD
      rw [sgF, if_neg (by omega)] at hq'
      refine z_aload0 dX2_sign_0 (z_getIv fl_X2_93 dX2_sign_1 rfl rfl (h9) (z_aload0 dX2_sign_4 (z_getIv fl_X2_96 dX2_sign_5 rfl rfl (h8) (z_icmp_ge 38 dX2_sign_8 (by decide) (fun _ => z_aload0 dX2_sign_38 (z_getIv fl_X2_93 dX2_sign_39 rfl rfl (h9) (z_aload0 dX2_sign_42 (z_getIv fl_X2_96 dX2_sign_43 rfl rfl (h8) (z_icmp_ge 65 dX2_sign_46 (by decide) (fun _ => z_iconst (v := (-1)) dX2_sign_65 (by decide) (z_ireturn dX2_sign_66 rfl (Nat.le_of_ble_eq_true rfl) (Nat.le_of_ble_eq_true rfl) ?_)) (fun c => absurd ((by rw [ea]; exact Int32.le_refl _)) c)))))) (fun c => absurd ((by rw [ea]; exact Int32.le_refl _)) c)))))
      exact hq'
    | succ m ih =>
      intro a μ' hm hr' hD hq
      have hr0 := hr'
      obtain ⟨hX, h8, h9, ha, he, hT⟩ := hr'
      have hlt : a < e := by omega
      have nge : ¬ nI e ≤ nI a := nI_ge hlt (by omega)
      by_cases hb : T a = 32
      · have es : skB T e a = skB T e (a + 1) := skE_t hlt (decide_eq_true hb)
        rw [es] at hq
        refine z_aload0 dX2_sign_0 (z_getIv fl_X2_93 dX2_sign_1 rfl rfl (h9) (z_aload0 dX2_sign_4 (z_getIv fl_X2_96 dX2_sign_5 rfl rfl (h8) (z_icmp_ge 38 dX2_sign_8 (by decide) (fun c => absurd c (nge)) (fun _ => z_aload0 dX2_sign_11 (z_getP fl_X2_9 dX2_sign_12 rfl rfl (hX.f2 0 (by decide)) (z_aload0 dX2_sign_15 (z_getIv fl_X2_93 dX2_sign_16 rfl rfl (h9) (z_baldv dX2_sign_19 rfl ⟨rfl, (show a < 400 by omega), Nat.le_of_ble_eq_true rfl⟩ ((hT a (by omega)).1) (z_bipush (v := 32) dX2_sign_20 (by decide) (z_icmp_ne 38 dX2_sign_22 (by decide) (fun c => absurd (hb) c) (fun _ => z_aload0 dX2_sign_25 (z_dupa dX2_sign_26 (z_getIv fl_X2_93 dX2_sign_27 rfl rfl (h9) (z_iconst (v := 1) dX2_sign_30 (by decide) (z_iadd dX2_sign_31 (z_putI fl_X2_93 dX2_sign_32 rfl rfl ⟨rfl, rfl⟩ (z_goto 0 dX2_sign_35 (by decide) ?_))))))))))))))))))
        have := ih (a + 1) (sI μ' 2 0 9 (nI (a + 1))) (by omega) (hr0.at (by omega)) (hD.tr (Dif.sI ⟨rfl, rfl, rfl⟩)) hq
        rw [← nI_1] at this
        exact this
      · have es : skB T e a = a := skE_f (fun q => hb (of_decide_eq_true q.2))
        rw [es] at hq
        have hq' := hq μ' hr0 hD
        rw [sgF, if_pos hlt] at hq'
        refine z_aload0 dX2_sign_0 (z_getIv fl_X2_93 dX2_sign_1 rfl rfl (h9) (z_aload0 dX2_sign_4 (z_getIv fl_X2_96 dX2_sign_5 rfl rfl (h8) (z_icmp_ge 38 dX2_sign_8 (by decide) (fun c => absurd c (nge)) (fun _ => z_aload0 dX2_sign_11 (z_getP fl_X2_9 dX2_sign_12 rfl rfl (hX.f2 0 (by decide)) (z_aload0 dX2_sign_15 (z_getIv fl_X2_93 dX2_sign_16 rfl rfl (h9) (z_baldv dX2_sign_19 rfl ⟨rfl, (show a < 400 by omega), Nat.le_of_ble_eq_true rfl⟩ ((hT a (by omega)).1) (z_bipush (v := 32) dX2_sign_20 (by decide) (z_icmp_ne 38 dX2_sign_22 (by decide) (fun _ => z_aload0 dX2_sign_38 (z_getIv fl_X2_93 dX2_sign_39 rfl rfl (h9) (z_aload0 dX2_sign_42 (z_getIv fl_X2_96 dX2_sign_43 rfl rfl (h8) (z_icmp_ge 65 dX2_sign_46 (by decide) (fun c => absurd c (nge)) (fun _ => z_aload0 dX2_sign_49 (z_getP fl_X2_9 dX2_sign_50 rfl rfl (hX.f2 0 (by decide)) (z_aload0 dX2_sign_53 (z_getIv fl_X2_93 dX2_sign_54 rfl rfl (h9) (z_baldv dX2_sign_57 rfl ⟨rfl, (show a < 400 by omega), Nat.le_of_ble_eq_true rfl⟩ ((hT a (by omega)).1) (z_sipush (v := 255) dX2_sign_58 (by decide) (z_iand dX2_sign_61 (z_goto 66 dX2_sign_62 (by decide) (z_ireturn dX2_sign_66 rfl (Nat.le_of_ble_eq_true rfl) (Nat.le_of_ble_eq_true rfl) ?_)))))))))))))) (fun c => absurd c (hb)))))))))))))
        exact hq'
  exact key _ a μ rfl hr Dif.rf h
end R1
