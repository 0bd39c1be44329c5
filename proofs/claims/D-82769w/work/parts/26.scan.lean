/-! reading: signs, words, numbers of a text -/
def skF (T : Nat → Int32) (e : Nat) (g : Int32 → Bool) : Nat → Nat → Nat
  | 0, a => a
  | f + 1, a => if a < e ∧ g (T a) = true then skF T e g f (a + 1) else a
def skE (T : Nat → Int32) (e : Nat) (g : Int32 → Bool) (a : Nat) : Nat := skF T e g (e - a) a
theorem skE_t {T : Nat → Int32} {e : Nat} {g : Int32 → Bool} {a : Nat} (h : a < e) (hg : g (T a) = true) : skE T e g a = skE T e g (a + 1) := by
  unfold skE
  rw [show e - a = (e - (a + 1)) + 1 by omega, skF, if_pos ⟨h, hg⟩]
theorem skE_f {T : Nat → Int32} {e : Nat} {g : Int32 → Bool} {a : Nat} (h : ¬ (a < e ∧ g (T a) = true)) : skE T e g a = a := by
  unfold skE
  cases hm : e - a with
  | zero => rfl
  | succ m => rw [skF, if_neg h]
theorem skE_ge (T : Nat → Int32) (e : Nat) (g : Int32 → Bool) (a : Nat) : a ≤ skE T e g a := by
  have key : ∀ f a, a ≤ skF T e g f a := by
    intro f
    induction f with
    | zero => intro a; exact Nat.le_refl _
    | succ f ih =>
      intro a
      rw [skF]
      split
      · have := ih (a + 1); omega
      · exact Nat.le_refl _
  exact key _ _
theorem skE_le {T : Nat → Int32} {e : Nat} {g : Int32 → Bool} {a : Nat} (h : a ≤ e) : skE T e g a ≤ e := by
  have key : ∀ f a, a ≤ e → skF T e g f a ≤ e := by
    intro f
    induction f with
    | zero => intro a ha; exact ha
    | succ f ih =>
      intro a ha
      rw [skF]
      split
      · rename_i q; exact ih (a + 1) (by omega)
      · exact ha
  exact key _ _ h
theorem skE_stop {T : Nat → Int32} {e : Nat} {g : Int32 → Bool} (a : Nat) : ¬ (skE T e g a < e ∧ g (T (skE T e g a)) = true) := by
  have key : ∀ m a, e - a = m → ¬ (skE T e g a < e ∧ g (T (skE T e g a)) = true) := by
    intro m
    induction m with
    | zero =>
      intro a hm
      rw [skE_f (fun q => by omega)]
      omega
    | succ m ih =>
      intro a hm
      by_cases q : a < e ∧ g (T a) = true
      · rw [skE_t q.1 q.2]; exact ih (a + 1) (by omega)
      · rw [skE_f q]; exact q
  exact key _ a rfl
theorem skE_id {T : Nat → Int32} {e : Nat} {g : Int32 → Bool} (a : Nat) : skE T e g (skE T e g a) = skE T e g a := skE_f (skE_stop a)
def blk (x : Int32) : Bool := decide (x = 32)
def ltr (x : Int32) : Bool := decide (97 ≤ x ∧ x ≤ 122)
def dgt (x : Int32) : Bool := decide (48 ≤ x ∧ x ≤ 57)
abbrev skB (T : Nat → Int32) (e a : Nat) : Nat := skE T e blk a
abbrev wdE (T : Nat → Int32) (e a : Nat) : Nat := skE T e ltr a
abbrev dgE (T : Nat → Int32) (e a : Nat) : Nat := skE T e dgt a
def eqS (T : Nat → Int32) (b : Nat) (txt : List Int32) : Nat → Bool
  | 0 => true
  | k + 1 => eqS T b txt k && decide (T (b + k) = txt.getD k 0)
theorem eqS_no {T : Nat → Int32} {b k : Nat} {txt : List Int32} (h : ¬ T (b + k) = txt.getD k 0) : ∀ n, k < n → eqS T b txt n = false
  | 0, hk => absurd hk (Nat.not_lt_zero _)
  | n + 1, hk => by
    rw [eqS]
    rcases Nat.lt_or_ge k n with q | q
    · rw [eqS_no h n q]; rfl
    · rw [show n = k by omega, decide_eq_false h]; exact Bool.and_false _
def isW (T : Nat → Int32) (b p : Nat) (txt : List Int32) : Bool := decide (p - b = txt.length) && eqS T b txt txt.length
theorem isW_len {T : Nat → Int32} {b p : Nat} {txt : List Int32} (h : isW T b p txt = true) : p - b = txt.length := by
  unfold isW at h
  rw [Bool.and_eq_true] at h
  exact of_decide_eq_true h.1
def numV (T : Nat → Int32) (b : Nat) : Nat → Int32
  | 0 => 0
  | k + 1 => 10 * numV T b k + T (b + k) - 48
theorem numV_nn {T : Nat → Int32} {b : Nat} : ∀ k, k ≤ 4 → (∀ j, j < k → dgt (T (b + j)) = true) → ∃ v, v < 10 ^ k ∧ numV T b k = nI v
  | 0, _, _ => ⟨0, by decide, rfl⟩
  | k + 1, hk, h => by
    obtain ⟨v, h1, h2⟩ := numV_nn k (by omega) (fun j hj => h j (by omega))
    have hd := of_decide_eq_true (h k (by omega))
    obtain ⟨d, hd1, hd2⟩ : ∃ d : Nat, d < 10 ∧ T (b + k) = nI (48 + d) := by
      obtain ⟨j, hj, ej⟩ := nI_of2 (x := T (b + k)) (M := 57) (n := 57) rfl (fun q => absurd hd.1 (Int32.not_le.mpr (Int32.lt_of_lt_of_le q (by decide)))) hd.2
      have h48 : 48 ≤ j := by
        have := hd.1
        rw [ej, show (48 : Int32) = nI 48 from rfl] at this
        exact (nI_leI (by decide) (by omega)).mp this
      exact ⟨j - 48, by omega, by rw [show 48 + (j - 48) = j by omega]; exact ej⟩
    have hp : 10 ^ (k + 1) = 10 ^ k * 10 := Nat.pow_succ ..
    have hp4 : 10 ^ k ≤ 10 ^ 3 := Nat.pow_le_pow_right (by decide) (by omega)
    refine ⟨10 * v + d, by rw [hp]; omega, ?_⟩
    rw [numV, h2, hd2, show (10 : Int32) = nI 10 from rfl, pk_mul, nI_add, show (48 : Int32) = nI 48 from rfl]
    rw [show 10 * v + (48 + d) = (10 * v + d) + 48 by omega, ← nI_add, Int32.add_sub_cancel]
/-- a number: where it is wrong, or where it ends and what it is -/
def numP (T : Nat → Int32) (e a : Nat) : Nat ⊕ (Nat × Int32) :=
  if dgE T e (skB T e a) = skB T e a ∨ 4 < dgE T e (skB T e a) - skB T e a then .inl (skB T e a) else .inr (dgE T e (skB T e a), numV T (skB T e a) (dgE T e (skB T e a) - skB T e a))
/-- the words -/
def wFact : List (List Int32) := [[97, 103, 101], [119, 97, 110, 116, 101, 100], [118, 97, 108, 105, 100], [97, 98, 114, 111, 97, 100], [102, 105, 114, 115, 116], [114, 101, 110, 101, 119], [108, 111, 115, 116], [115, 101, 99, 111, 110, 100], [117, 114, 103, 101, 110, 116]]
def wItem : List (List Int32) := [[100, 101, 101, 100], [112, 104, 111, 116, 111], [99, 111, 110, 115, 101, 110, 116], [98, 111, 116, 104], [111, 108, 100, 98, 111, 111, 107], [114, 101, 112, 111, 114, 116], [116, 105, 99, 107, 101, 116], [99, 104, 97, 110, 103, 101]]
/-- the first of the words that stands there -/
def fstW (T : Nat → Int32) (b p : Nat) : List (List Int32) → Nat
  | [] => 0
  | w :: t => if isW T b p w then 0 else fstW T b p t + 1
theorem strB_f : ∀ k, k < 9 → strB[27 + k]? = some (wFact.getD k []) := by decide +kernel
theorem strB_i : ∀ k, k < 8 → strB[36 + k]? = some (wItem.getD k []) := by decide +kernel
def wNot : List Int32 := [110, 111, 116]
def wAnd : List Int32 := [97, 110, 100]
def wOr : List Int32 := [111, 114]
def wIf : List Int32 := [105, 102]
def wNeed : List Int32 := [110, 101, 101, 100]
def wFee : List Int32 := [102, 101, 101]
def wYears : List Int32 := [121, 101, 97, 114, 115]
def wRisk : List Int32 := [114, 105, 115, 107]
def wSee : List Int32 := [115, 101, 101]
def wBack : List Int32 := [98, 97, 99, 107]
abbrev Pr : Type := Nat ⊕ (Nat × List Sp3)
/-- a fact, and what it is asked -/
def fctP (T : Nat → Int32) (e b : Nat) : Pr :=
  if fstW T b (wdE T e b) wFact = 9 then .inl b
  else if skB T e (wdE T e b) < e ∧ T (skB T e (wdE T e b)) = 60 then
    (match numP T e (skB T e (wdE T e b) + 1) with
      | .inl x => .inl x
      | .inr q => .inr (q.1, [(nI (fstW T b (wdE T e b) wFact), 1, q.2)]))
  else if skB T e (wdE T e b) < e ∧ T (skB T e (wdE T e b)) = 62 then
    (match numP T e (skB T e (wdE T e b) + 1) with
      | .inl x => .inl x
      | .inr q => .inr (q.1, [(nI (fstW T b (wdE T e b) wFact), 2, q.2)]))
  else .inr (skB T e (wdE T e b), [(nI (fstW T b (wdE T e b) wFact), 0, 0)])
/-- conditions: 0 an atom, 1 all of, 2 a condition, 3 what follows with 'and', 4 with 'or' -/
def prs (T : Nat → Int32) (e : Nat) : Nat → Nat → Nat → Nat → Pr
  | 0, _, _, a => .inl a
  | f + 1, 0, d, a =>
    if skB T e a < e ∧ T (skB T e a) = 40 then
      (if d = 8 then .inl (skB T e a) else match prs T e f 2 (d + 1) (skB T e a + 1) with
        | .inl x => .inl x
        | .inr q => if skB T e q.1 < e ∧ T (skB T e q.1) = 41 then .inr (skB T e q.1 + 1, q.2) else .inl (skB T e q.1))
    else if isW T (skB T e a) (wdE T e (skB T e a)) wNot then
      (if d = 8 then .inl (skB T e a) else match prs T e f 0 (d + 1) (wdE T e (skB T e a)) with
        | .inl x => .inl x
        | .inr q => .inr (q.1, q.2 ++ [(100, 0, 0)]))
    else fctP T e (skB T e a)
  | f + 1, 1, d, a =>
    (match prs T e f 0 d a with
      | .inl x => .inl x
      | .inr q => match prs T e f 3 d q.1 with
        | .inl x => .inl x
        | .inr q' => .inr (q'.1, q.2 ++ q'.2))
  | f + 1, 2, d, a =>
    (match prs T e f 1 d a with
      | .inl x => .inl x
      | .inr q => match prs T e f 4 d q.1 with
        | .inl x => .inl x
        | .inr q' => .inr (q'.1, q.2 ++ q'.2))
  | f + 1, 3, d, a =>
    if isW T (skB T e a) (wdE T e (skB T e a)) wAnd then
      (match prs T e f 0 d (wdE T e (skB T e a)) with
        | .inl x => .inl x
        | .inr q => match prs T e f 3 d q.1 with
          | .inl x => .inl x
          | .inr q' => .inr (q'.1, q.2 ++ (101, 0, 0) :: q'.2))
    else .inr (skB T e a, [])
  | f + 1, _, d, a =>
    if isW T (skB T e a) (wdE T e (skB T e a)) wOr then
      (match prs T e f 1 d (wdE T e (skB T e a)) with
        | .inl x => .inl x
        | .inr q => match prs T e f 4 d q.1 with
          | .inl x => .inl x
          | .inr q' => .inr (q'.1, q.2 ++ (102, 0, 0) :: q'.2))
    else .inr (skB T e a, [])
/-- a clause -/
def srtF (T : Nat → Int32) (b p : Nat) : Int32 := if isW T b p wNeed then 0 else if isW T b p wFee then 1 else if isW T b p wYears then 2 else if isW T b p wRisk then 3 else if isW T b p wSee then 4 else if isW T b p wBack then 5 else -1
def cNum (T : Nat → Int32) (e b : Nat) : Nat ⊕ (Nat × Int32) :=
  if srtF T b (wdE T e b) < 0 then .inl b
  else if srtF T b (wdE T e b) = 0 then
    (if fstW T (skB T e (wdE T e b)) (wdE T e (skB T e (wdE T e b))) wItem = 8 then .inl (skB T e (wdE T e b)) else .inr (wdE T e (skB T e (wdE T e b)), (1 : Int32) <<< (nI (fstW T (skB T e (wdE T e b)) (wdE T e (skB T e (wdE T e b))) wItem) &&& 31)))
  else if srtF T b (wdE T e b) = 4 then .inr (wdE T e b, 0)
  else numP T e (wdE T e b)
def clsP (T : Nat → Int32) (e a : Nat) : Nat ⊕ (Nat × Cl3) :=
  match cNum T e (skB T e a) with
  | .inl x => .inl x
  | .inr q => if isW T (skB T e q.1) (wdE T e (skB T e q.1)) wIf then
      (match prs T e 2100 2 0 (wdE T e (skB T e q.1)) with
        | .inl x => .inl x
        | .inr q' => .inr (q'.1, (srtF T (skB T e a) (wdE T e (skB T e a)), q.2, q'.2)))
    else .inr (skB T e q.1, (srtF T (skB T e a) (wdE T e (skB T e a)), q.2, []))
/-- the clauses from one on; m: how many more there may be -/
def lwsP (T : Nat → Int32) (e : Nat) : Nat → Nat → Nat ⊕ List Cl3
  | 0, a => .inl (skB T e a)
  | m + 1, a =>
    match clsP T e a with
    | .inl x => .inl x
    | .inr q => if skB T e q.1 = e then .inr [q.2] else if T (skB T e q.1) = 59 then
        (match lwsP T e m (skB T e q.1 + 1) with
          | .inl x => .inl x
          | .inr l => .inr (q.2 :: l))
      else .inl (skB T e q.1)
def lawP (T : Nat → Int32) (e : Nat) : Nat ⊕ List Cl3 := if skB T e 0 = e then .inr [] else lwsP T e 16 (skB T e 0)
