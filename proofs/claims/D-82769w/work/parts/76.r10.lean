/-! the Reader: conditions -/
/-- what the reading of a condition comes to -/
def PO (T : Nat → Int32) (e : Nat) (μ : Mem) (a d : Nat) (Q : Res → Mem → Prop) (r : Pr) : Prop := match r with
  | .inl x => ∀ μ', FK μ μ' → gI μ' 3 0 6 = nI x → Q (rX 3 0) μ'
  | .inr q => ∀ μ' h F, FK μ μ' → RX T e q.1 μ' → gI μ' 2 0 10 = nI d → CdX μ' (q.1 - a) h F → (∀ φ stk, evL φ q.2 stk = some (F φ :: stk)) → Q (rO (some h)) μ'
def KR (e a K : Nat) (r : Pr) : Prop := match r with
  | .inl _ => e - a + 1 ≤ K
  | .inr q => q.1 - a ≤ K
section R10
variable {T : Nat → Int32} {e : Nat}
theorem PO.l {μ : Mem} {a d x : Nat} {Q : Res → Mem → Prop} {r : Pr} (hr : r = .inl x) (h : ∀ μ', FK μ μ' → gI μ' 3 0 6 = nI x → Q (rX 3 0) μ') : PO T e μ a d Q r := by rw [hr]; exact h
theorem PO.r {μ : Mem} {a d : Nat} {Q : Res → Mem → Prop} {r : Pr} {q : Nat × List Sp3} (hr : r = .inr q) (h : ∀ μ' h F, FK μ μ' → RX T e q.1 μ' → gI μ' 2 0 10 = nI d → CdX μ' (q.1 - a) h F → (∀ φ stk, evL φ q.2 stk = some (F φ :: stk)) → Q (rO (some h)) μ') : PO T e μ a d Q r := by rw [hr]; exact h
theorem KR.l {a K x : Nat} {r : Pr} (hr : r = .inl x) (h : e - a + 1 ≤ K) : KR e a K r := by rw [hr]; exact h
theorem KR.r {a K : Nat} {r : Pr} {q : Nat × List Sp3} (hr : r = .inr q) (h : q.1 - a ≤ K) : KR e a K r := by rw [hr]; exact h
def QcA (T : Nat → Int32) (e f : Nat) : Prop := ∀ (d a D K : Nat) (μ : Mem) (Q : Res → Mem → Prop), d ≤ 8 → 3 * (8 - d) + 9 ≤ D → 5 * (e - a) + 1 ≤ f → RX T e a μ → gI μ 2 0 10 = nI d → KR e a K (prs T e f 0 d a) → PO T e μ a d Q (prs T e f 0 d a) → Ct RX2 cX2_atom (5, some (.object "PassportOffice$Cond"), [], false, rmm D K (3 * K)) [vr 2 0] μ Q
def QcB (T : Nat → Int32) (e f : Nat) : Prop := ∀ (d a D K : Nat) (μ : Mem) (Q : Res → Mem → Prop), d ≤ 8 → 3 * (8 - d) + 10 ≤ D → 5 * (e - a) + 2 ≤ f → RX T e a μ → gI μ 2 0 10 = nI d → KR e a K (prs T e f 1 d a) → PO T e μ a d Q (prs T e f 1 d a) → Ct RX2 cX2_all (2, some (.object "PassportOffice$Cond"), [], false, rmm D K (3 * K)) [vr 2 0] μ Q
def QcC (T : Nat → Int32) (e f : Nat) : Prop := ∀ (d a D K : Nat) (μ : Mem) (Q : Res → Mem → Prop), d ≤ 8 → 3 * (8 - d) + 11 ≤ D → 5 * (e - a) + 3 ≤ f → RX T e a μ → gI μ 2 0 10 = nI d → KR e a K (prs T e f 2 d a) → PO T e μ a d Q (prs T e f 2 d a) → Ct RX2 cX2_cond (2, some (.object "PassportOffice$Cond"), [], false, rmm D K (3 * K)) [vr 2 0] μ Q
theorem strB_26 : strB[26]? = some wNot := by decide +kernel
theorem strB_25 : strB[25]? = some wAnd := by decide +kernel
theorem strB_24 : strB[24]? = some wOr := by decide +kernel
theorem strB_23 : strB[23]? = some wIf := by decide +kernel
end R10
