/-! the abstract state: a table of columns of numbers; where the Model and the Office hold it -/
section DB
def up2 (σ : Nat → Nat → Int32) (c i : Nat) (v : Int32) : Nat → Nat → Int32 := va_up σ c (va_up (σ c) i v)
theorem up2_eq (σ : Nat → Nat → Int32) (c i : Nat) (v : Int32) (c' i' : Nat) : up2 σ c i v c' i' = if c' = c ∧ i' = i then v else σ c' i' := v2_eq _ _ _ _ _ _
abbrev Sg : Type := Nat → Nat → Int32
/-- a number that is not negative, as a natural number -/
abbrev tn (x : Int32) : Nat := x.toNatClampNeg
theorem tn_nI {j : Nat} (h : j < 2147483648) : tn (nI j) = j := nI_clamp h
/-! the Model's places -/
def mpL : List Nat := [116, 116, 116, 116, 116, 116, 116, 50, 118, 119, 120, 121, 104, 105, 106, 107, 109, 110, 111, 112, 113, 114, 115, 108, 80, 81, 82, 86, 98, 99, 100, 101, 102, 97, 50, 53, 84, 83, 61, 62]
def mp (c : Nat) : Nat := mpL.getD c 0
def tS : List Nat := [1, 43, 74, 76, 71, 73]
def tT : List Nat := [19, 34, 66, 52, 37, 38, 39, 40, 41, 42, 1010, 1011, 72, 75, 8, 3, 44, 45]
def ms (c i : Nat) : Nat := if c < 7 then 7 * i + c else if c = 7 then tS.getD i 0 else if c = 34 then tT.getD i 0 else i
/-- the places that the Model has -/
def sM (c i : Nat) : Prop := if c = 7 then i < 6 else if c = 34 then i < 18 ∧ i ≠ 10 ∧ i ≠ 11 ∧ i ≠ 13 else c < 40
/-- those that are right: booklets only below their number -/
def vM (σ : Sg) (c i : Nat) : Prop := sM c i ∧ (8 ≤ c ∧ c ≤ 11 → i < tn (σ 7 4))
def RepM (σ : Sg) (μ : Mem) : Prop := ∀ c i, vM σ c i → gI μ (mp c) 0 (ms c i) = σ c i
def mpok (a b : Nat) : Bool := (mp a != mp b) || (a == b) || (decide (a < 7) && decide (b < 7)) || ((a == 7 || a == 34) && (b == 7 || b == 34))
theorem mp_injF : ((List.range 40).all fun a => (List.range 40).all fun b => mpok a b) = true := by decide +kernel
theorem mp_inj : ∀ c, c < 40 → ∀ c', c' < 40 → mp c = mp c' → c = c' ∨ (c < 7 ∧ c' < 7) ∨ ((c = 7 ∨ c = 34) ∧ (c' = 7 ∨ c' = 34)) := by
  intro c hc c' hc' e
  have h1 := List.all_eq_true.mp (List.all_eq_true.mp mp_injF c (List.mem_range.mpr hc)) c' (List.mem_range.mpr hc')
  unfold mpok at h1
  rw [e] at h1
  have h2 : (c = c' ∨ c < 7 ∧ c' < 7) ∨ (c = 7 ∨ c = 34) ∧ (c' = 7 ∨ c' = 34) := by simpa using h1
  rcases h2 with (q | q) | q
  · exact Or.inl q
  · exact Or.inr (Or.inl q)
  · exact Or.inr (Or.inr q)
theorem tS_inj : ∀ i, i < 6 → ∀ j, j < 6 → tS.getD i 0 = tS.getD j 0 → i = j := by decide +kernel
theorem tT_inj : ∀ i, i < 18 → ∀ j, j < 18 → tT.getD i 0 = tT.getD j 0 → i = j := by decide +kernel
theorem tST : ∀ i, i < 6 → ∀ j, j < 18 → tS.getD i 0 ≠ tT.getD j 0 := by decide +kernel
theorem sM_lt {c i : Nat} (h : sM c i) : c < 40 := by
  unfold sM at h
  split at h
  · omega
  · split at h
    · omega
    · exact h
theorem sM_7 {i : Nat} (h : sM 7 i) : i < 6 := h
theorem sM_34 {i : Nat} (h : sM 34 i) : i < 18 := h.1
theorem ml_inj {c i c' i' : Nat} (h : sM c i) (h' : sM c' i') (e1 : mp c = mp c') (e2 : ms c i = ms c' i') : c = c' ∧ i = i' := by
  have d : c = c' → c = c' ∧ i = i' := fun e => by
    subst e
    refine ⟨rfl, ?_⟩
    unfold ms at e2
    by_cases q1 : c < 7
    · rw [if_pos q1, if_pos q1] at e2; omega
    · rw [if_neg q1, if_neg q1] at e2
      by_cases q2 : c = 7
      · subst q2
        exact tS_inj i (sM_7 h) i' (sM_7 h') e2
      · rw [if_neg q2, if_neg q2] at e2
        by_cases q3 : c = 34
        · subst q3
          exact tT_inj i (sM_34 h) i' (sM_34 h') e2
        · rw [if_neg q3, if_neg q3] at e2; exact e2
  rcases mp_inj c (sM_lt h) c' (sM_lt h') e1 with q | ⟨q1, q2⟩ | ⟨q1, q2⟩
  · exact d q
  · unfold ms at e2
    rw [if_pos q1, if_pos q2] at e2
    exact d (by omega)
  · rcases q1 with rfl | rfl <;> rcases q2 with rfl | rfl
    · exact d rfl
    · exact absurd e2 (tST i (sM_7 h) i' (sM_34 h'))
    · exact absurd e2.symm (tST i' (sM_7 h') i (sM_34 h))
    · exact d rfl
theorem RepM.set {σ : Sg} {μ : Mem} (hR : RepM σ μ) (c i : Nat) (v : Int32) (hs : sM c i) (hb : ¬ (c = 7 ∧ i = 4)) : RepM (up2 σ c i v) (sI μ (mp c) 0 (ms c i) v) := by
  intro c' i' hv
  rw [up2_eq, gI_sI]
  by_cases e : c' = c ∧ i' = i
  · rw [e.1, e.2]; simp
  · rw [if_neg e]
    have hv' : vM σ c' i' := ⟨hv.1, fun q => by
      have := hv.2 q
      rw [up2_eq, if_neg (fun z => hb ⟨z.1.symm, z.2.symm⟩)] at this
      exact this⟩
    rw [if_neg, hR c' i' hv']
    rintro ⟨q1, -, q2⟩
    exact e (ml_inj hv.1 hs q1 q2)
/-- two memories differ at most where S says -/
def Dif (S : Nat → Nat → Nat → Prop) (μ μ' : Mem) : Prop := μ'.2 = μ.2 ∧ ∀ p i k, ¬ S p i k → gI μ' p i k = gI μ p i k
theorem Dif.rf {S : Nat → Nat → Nat → Prop} {μ : Mem} : Dif S μ μ := ⟨rfl, fun _ _ _ _ => rfl⟩
theorem Dif.tr {S : Nat → Nat → Nat → Prop} {a b c : Mem} (h1 : Dif S a b) (h2 : Dif S b c) : Dif S a c := ⟨h2.1.trans h1.1, fun p i k h => (h2.2 p i k h).trans (h1.2 p i k h)⟩
theorem Dif.mono {S S' : Nat → Nat → Nat → Prop} {a b : Mem} (h1 : Dif S a b) (h2 : ∀ p i k, S p i k → S' p i k) : Dif S' a b := ⟨h1.1, fun p i k h => h1.2 p i k (fun q => h (h2 p i k q))⟩
theorem Dif.sI {S : Nat → Nat → Nat → Prop} {μ : Mem} {p i k : Nat} {x : Int32} (h : S p i k) : Dif S μ (sI μ p i k x) := ⟨rfl, fun p' i' k' hn => by
  rw [gI_sI, if_neg]
  rintro ⟨q1, q2, q3⟩
  rw [q1, q2, q3] at hn
  exact hn h⟩
theorem Dif.P {S : Nat → Nat → Nat → Prop} {μ μ' : Mem} (h : Dif S μ μ') (p i k : Nat) : gP μ' p i k = gP μ p i k := by unfold gP; rw [h.1]
theorem Dif.C {S : Nat → Nat → Nat → Prop} {μ μ' : Mem} (h : Dif S μ μ') (p : Nat) : gC μ' p = gC μ p := by unfold gC; rw [h.1]
theorem Dif.L {S : Nat → Nat → Nat → Prop} {μ μ' : Mem} (h : Dif S μ μ') (p i : Nat) : gL μ' p i = gL μ p i := by unfold gL; rw [h.1]
theorem Dif.J {S : Nat → Nat → Nat → Prop} {μ μ' : Mem} (h : Dif S μ μ') (p i k : Nat) : gJ μ' p i k = gJ μ p i k := by unfold gJ; rw [h.1]
/-- the Model's own places of the table -/
def SM : Nat → Nat → Nat → Prop := fun p i k => i = 0 ∧ ∃ c j, sM c j ∧ p = mp c ∧ k = ms c j
theorem SM.of {c j : Nat} (h : sM c j) : SM (mp c) 0 (ms c j) := ⟨rfl, c, j, h, rfl, rfl⟩
theorem RepM.dif {S : Nat → Nat → Nat → Prop} {σ : Sg} {μ μ' : Mem} (hR : RepM σ μ) (hD : Dif S μ μ') (hS : ∀ p k, SM p 0 k → ¬ S p 0 k) : RepM σ μ' := fun c i hv => (hD.2 _ _ _ (hS _ _ (SM.of hv.1))).trans (hR c i hv)
/-! the Office's places (w: 0 the world that is, 1 the trial) -/
def xpL : List Nat := [34, 34, 34, 34, 34, 34, 34, 4, 37, 37, 37, 37, 33, 33, 33, 33, 33, 32, 32, 32, 32, 32, 32, 34, 23, 23, 24, 14, 36, 36, 36, 36, 36, 19, 1, 5, 999, 999, 26, 26]
def xsL : List Nat := [0, 2, 3, 4, 5, 6, 7, 0, 0, 1, 3, 2, 1, 2, 3, 4, 5, 0, 1, 2, 3, 5, 4, 1, 0, 1, 0, 0, 0, 1, 2, 3, 4, 0, 0, 0, 0, 0, 0, 1]
def xS : List Nat := [1, 2, 3, 4, 5]
def xT : List Nat := [13, 14, 15, 16, 17, 18, 19, 20, 21, 22, 23, 24, 25, 27, 28]
/-- pool, index, slot -/
def xl (w c i : Nat) : Nat × Nat × Nat :=
  if c = 7 then (if i = 5 then (1, 0, 26) else (4, w, xS.getD i 0))
  else if c = 34 then (if i = 15 then (2, 0, 7) else (1, 0, xT.getD i 0))
  else if c = 26 then (24, i / 5, i % 5)
  else if c = 27 then (14, i / 80, i % 80)
  else if c = 33 then (19, 0, i)
  else if c = 35 then (5, 0, i)
  else if c < 7 ∨ c = 23 then (34 + w, i, xsL.getD c 0)
  else (xpL.getD c 0, i, xsL.getD c 0)
def sX (c i : Nat) : Prop := if c = 7 then i < 6 else if c = 34 then i < 16 else c < 40 ∧ c ≠ 36 ∧ c ≠ 37
/-- what is told, as the Office writes it -/
def tX (v : Int32) : Int32 := if v = 1 then 2 else if v = 2 then 1 else v
def eX (c : Nat) (v : Int32) : Int32 := if c = 27 then tX v else v
def gX (μ : Mem) (q : Nat × Nat × Nat) : Int32 := gI μ q.1 q.2.1 q.2.2
def RepX (w : Nat) (σ : Sg) (μ : Mem) : Prop := ∀ c i, sX c i → gX μ (xl w c i) = eX c (σ c i)
def xTi : List Nat := [0, 0, 0, 0, 0, 0, 0, 0, 0, 0, 0, 0, 0, 0, 1, 2, 3, 4, 5, 6, 7, 8, 9, 10, 11, 12, 0, 13, 14, 0]
def xc34 : List Nat := [0, 23, 1, 2, 3, 4, 5, 6]
def xc37 : List Nat := [8, 9, 11, 10]
def xc33 : List Nat := [99, 12, 13, 14, 15, 16]
def xc32 : List Nat := [17, 18, 19, 20, 22, 21]
def xc23 : List Nat := [24, 25]
def xc36 : List Nat := [28, 29, 30, 31, 32]
def xc26 : List Nat := [38, 39]
/-- the column and index of a place -/
def xinv (q : Nat × Nat × Nat) : Nat × Nat :=
  if q.1 = 24 then (26, 5 * q.2.1 + q.2.2) else if q.1 = 14 then (27, 80 * q.2.1 + q.2.2) else if q.1 = 19 then (33, q.2.2) else if q.1 = 5 then (35, q.2.2) else if q.1 = 4 then (7, q.2.2 - 1) else if q.1 = 2 then (34, 15)
  else if q.1 = 1 then (if q.2.2 = 26 then (7, 5) else (34, xTi.getD q.2.2 0))
  else ((if q.1 = 34 ∨ q.1 = 35 then xc34 else if q.1 = 37 then xc37 else if q.1 = 33 then xc33 else if q.1 = 32 then xc32 else if q.1 = 23 then xc23 else if q.1 = 36 then xc36 else if q.1 = 26 then xc26 else []).getD q.2.2 0, q.2.1)
theorem xinv_xl {w c i : Nat} (hw : w < 2) (h : sX c i) : xinv (xl w c i) = (c, i) := by
  have hw : w = 0 ∨ w = 1 := by omega
  match c, h with
  | 0, _ => rcases hw with rfl | rfl <;> rfl
  | 1, _ => rcases hw with rfl | rfl <;> rfl
  | 2, _ => rcases hw with rfl | rfl <;> rfl
  | 3, _ => rcases hw with rfl | rfl <;> rfl
  | 4, _ => rcases hw with rfl | rfl <;> rfl
  | 5, _ => rcases hw with rfl | rfl <;> rfl
  | 6, _ => rcases hw with rfl | rfl <;> rfl
  | 7, h =>
    have h : i < 6 := h
    match i, h with
    | 0, _ => rfl
    | 1, _ => rfl
    | 2, _ => rfl
    | 3, _ => rfl
    | 4, _ => rfl
    | 5, _ => rfl
    | i + 6, h => omega
  | 8, _ => rcases hw with rfl | rfl <;> rfl
  | 9, _ => rcases hw with rfl | rfl <;> rfl
  | 10, _ => rcases hw with rfl | rfl <;> rfl
  | 11, _ => rcases hw with rfl | rfl <;> rfl
  | 12, _ => rcases hw with rfl | rfl <;> rfl
  | 13, _ => rcases hw with rfl | rfl <;> rfl
  | 14, _ => rcases hw with rfl | rfl <;> rfl
  | 15, _ => rcases hw with rfl | rfl <;> rfl
  | 16, _ => rcases hw with rfl | rfl <;> rfl
  | 17, _ => rcases hw with rfl | rfl <;> rfl
  | 18, _ => rcases hw with rfl | rfl <;> rfl
  | 19, _ => rcases hw with rfl | rfl <;> rfl
  | 20, _ => rcases hw with rfl | rfl <;> rfl
  | 21, _ => rcases hw with rfl | rfl <;> rfl
  | 22, _ => rcases hw with rfl | rfl <;> rfl
  | 23, _ => rcases hw with rfl | rfl <;> rfl
  | 24, _ => rcases hw with rfl | rfl <;> rfl
  | 25, _ => rcases hw with rfl | rfl <;> rfl
  | 26, _ => show (26, 5 * (i / 5) + i % 5) = (26, i); rw [Nat.div_add_mod]
  | 27, _ => show (27, 80 * (i / 80) + i % 80) = (27, i); rw [Nat.div_add_mod]
  | 28, _ => rcases hw with rfl | rfl <;> rfl
  | 29, _ => rcases hw with rfl | rfl <;> rfl
  | 30, _ => rcases hw with rfl | rfl <;> rfl
  | 31, _ => rcases hw with rfl | rfl <;> rfl
  | 32, _ => rcases hw with rfl | rfl <;> rfl
  | 33, _ => rfl
  | 34, h =>
    have h : i < 16 := h
    match i, h with
    | 0, _ => rfl
    | 1, _ => rfl
    | 2, _ => rfl
    | 3, _ => rfl
    | 4, _ => rfl
    | 5, _ => rfl
    | 6, _ => rfl
    | 7, _ => rfl
    | 8, _ => rfl
    | 9, _ => rfl
    | 10, _ => rfl
    | 11, _ => rfl
    | 12, _ => rfl
    | 13, _ => rfl
    | 14, _ => rfl
    | 15, _ => rfl
    | i + 16, h => omega
  | 35, _ => rfl
  | 36, h => exact absurd rfl (h.2.1)
  | 37, h => exact absurd rfl (h.2.2)
  | 38, _ => rcases hw with rfl | rfl <;> rfl
  | 39, _ => rcases hw with rfl | rfl <;> rfl
  | c + 40, h =>
    unfold sX at h
    rw [if_neg (by omega), if_neg (by omega)] at h
    omega
theorem xl_rec {w c i c' i' : Nat} (hw : w < 2) (h : sX c i) (h' : sX c' i') (e : xl w c i = xl w c' i') : c = c' ∧ i = i' := by
  have e1 := xinv_xl hw h
  rw [e, xinv_xl hw h'] at e1
  exact ⟨(congrArg Prod.fst e1).symm, (congrArg Prod.snd e1).symm⟩
theorem RepX.set {w : Nat} {σ : Sg} {μ : Mem} (hw : w < 2) (hR : RepX w σ μ) (c i : Nat) (v : Int32) (hs : sX c i) : RepX w (up2 σ c i v) (sI μ (xl w c i).1 (xl w c i).2.1 (xl w c i).2.2 (eX c v)) := by
  intro c' i' hv
  unfold gX
  rw [up2_eq, gI_sI]
  by_cases e : c' = c ∧ i' = i
  · rw [e.1, e.2]; simp
  · rw [if_neg e, if_neg]
    · exact hR c' i' hv
    · rintro ⟨q1, q2, q3⟩
      exact e (xl_rec hw hv hs (Prod.ext q1 (Prod.ext q2 q3)))
end DB
