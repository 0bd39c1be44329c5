/-! the Reader: a fact -/
/-- what reading conditions changes -/
def SKx : Nat → Nat → Nat → Prop := fun p i k => (p = 2 ∧ i = 0 ∧ (k = 9 ∨ k = 10)) ∨ (p = 3 ∧ i = 0 ∧ k = 6) ∨ (28 ≤ p ∧ p ≤ 31)
def TKx : Nat → Prop := fun p => 28 ≤ p ∧ p ≤ 31
/-- reading: what is kept -/
def FK (μ μ' : Mem) : Prop := FX SKx TKx μ μ' ∧ KP μ μ'
section R6
variable {μ μ' μ'' : Mem} {Q : Res → Mem → Prop} {T : Nat → Int32} {e a b : Nat}
theorem FK.rf : FK μ μ := ⟨FX.rf, KP.rf⟩
theorem FK.tr (h1 : FK μ μ') (h2 : FK μ' μ'') : FK μ μ'' := ⟨h1.1.tr h2.1, h1.2.tr h2.2⟩
theorem FK.s29 (h : Dif S29 μ μ') : FK μ μ' := by
  have f : FX SKx TKx μ μ' := ⟨fun p i k q => h.2 p i k fun z => q (by unfold S29 at z; unfold SKx; omega), fun p _ => ⟨h.C p, fun i => ⟨h.L p i, fun k => h.P p i k⟩⟩⟩
  exact ⟨f, fun p hp => ⟨Nat.le_of_eq (h.C p).symm, fun i _ => ⟨h.L p i, fun k => ⟨h.2 p i k (by unfold S29; omega), h.P p i k⟩⟩⟩⟩
theorem FK.s3 (h : Dif S3 μ μ') : FK μ μ' := by
  have f : FX SKx TKx μ μ' := ⟨fun p i k q => h.2 p i k fun z => q (by unfold S3 at z; unfold SKx; omega), fun p _ => ⟨h.C p, fun i => ⟨h.L p i, fun k => h.P p i k⟩⟩⟩
  exact ⟨f, fun p hp => ⟨Nat.le_of_eq (h.C p).symm, fun i _ => ⟨h.L p i, fun k => ⟨h.2 p i k (by unfold S3; omega), h.P p i k⟩⟩⟩⟩
theorem RX.fk {a' : Nat} (h : RX T e a μ) (hF : FK μ μ') (ha : gI μ' 2 0 9 = nI a') (ha' : a' ≤ e) : RX T e a' μ' := by
  obtain ⟨h1, h2, h3, h4, h5, h6⟩ := h
  exact ⟨h1.of fun p i k hp => hF.1.P i k (by unfold TKx; omega), (hF.1.I (by unfold SKx; omega)).trans h2, ha, ha', h5, fun j hj => by rw [hF.1.I (by unfold SKx; omega)]; exact h6 j hj⟩
end R6
