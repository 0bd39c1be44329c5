/-! the Reader: a fact, read -/
section R8
variable {μ μ' μ'' : Mem} {Q : Res → Mem → Prop} {T : Nat → Int32} {e a b : Nat}
theorem ev_fact {f : Nat} (hf : f < 9) {op : Nat} {v how than : Int32} (hop : (op = 0 ∧ how = 61) ∨ (op = 1 ∧ how = 60 ∧ than = v) ∨ (op = 2 ∧ how = 62 ∧ than = v)) (φ : Nat → Int32) (stk : List Bool) : evL φ [(nI f, nI op, v)] stk = some (fcX φ f how than :: stk) := by
  have f1 : ¬ nI f = 100 := fun q => by have := (nI_eq (b := 100) (by omega) (by decide)).mp q; omega
  have f2 : ¬ (101 : Int32) ≤ nI f := nI_ge (a := f) (b := 101) (by omega) (by decide)
  have f3 : (0 : Int32) ≤ nI f ∧ nI f ≤ 8 := ⟨Int32.not_lt.mp (nI_pos (by omega)), (nI_leI (a := f) (b := 8) (by omega) (by decide)).mpr (by omega)⟩
  have eo : evO φ (nI f, nI op, v) stk = some (fctB φ (nI f, nI op, v) :: stk) := by
    unfold evO
    rw [if_neg f1, if_neg f2, if_pos f3]
  rw [evL, eo]
  show some (fctB φ (nI f, nI op, v) :: stk) = _
  unfold fctB fcX
  rw [tn_nI (by omega)]
  rcases hop with ⟨rfl, rfl⟩ | ⟨rfl, rfl, rfl⟩ | ⟨rfl, rfl, rfl⟩
  · rw [if_pos (show (nI f, nI 0, v).2.1 = 0 from rfl), if_neg (by decide), if_neg (by decide)]
  · rw [if_neg (by show ¬ nI 1 = 0; decide), if_pos (show (nI f, nI 1, than).2.1 = 1 from rfl), if_pos rfl]
  · rw [if_neg (by show ¬ nI 2 = 0; decide), if_neg (by show ¬ nI 2 = 1; decide), if_neg (by decide), if_pos rfl]
end R8
