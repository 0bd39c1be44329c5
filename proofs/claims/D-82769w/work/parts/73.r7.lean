/-! the Reader: a fact -/
theorem byte_n {t : Int32} (h1 : -128 ≤ t) (h2 : t ≤ 127) : ∃ n, n < 256 ∧ t = nI n - 128 := by
  have a1 := ti_le.mp h1
  have a2 := ti_le.mp h2
  have z1 : (-128 : Int32).toInt = -128 := rfl
  have z2 : (127 : Int32).toInt = 127 := rfl
  have z3 : (128 : Int32).toInt = 128 := rfl
  refine ⟨(t.toInt + 128).toNat, by omega, ?_⟩
  apply Int32.toInt_inj.mp
  have e := nI_toInt (n := (t.toInt + 128).toNat) (by omega)
  rw [ti_sub (by omega) (by omega), e, z3]
  omega
theorem and_255 : ∀ n, n < 256 → ∀ x, x < 128 → ((nI n - 128) &&& 255 = nI x ↔ nI n - 128 = nI x) := by decide +kernel
theorem sg_eq {T : Nat → Int32} {e c x : Nat} (hT : -128 ≤ T c ∧ T c ≤ 127) (hx : x < 128) : sgF T e c = nI x ↔ c < e ∧ T c = nI x := by
  unfold sgF
  by_cases h : c < e
  · rw [if_pos h]
    obtain ⟨n, hn, en⟩ := byte_n hT.1 hT.2
    rw [en, and_255 n hn x hx]
    exact ⟨fun q => ⟨h, q⟩, fun q => q.2⟩
  · rw [if_neg h]
    refine ⟨fun q => ?_, fun q => absurd q.1 h⟩
    have := congrArg Int32.toInt q
    rw [nI_toInt (by omega)] at this
    have z1 : (-1 : Int32).toInt = -1 := rfl
    omega
theorem strB_8 : ∀ k, k < 9 → strB[14 + k]? = some (wFact.getD k []) := by decide +kernel
