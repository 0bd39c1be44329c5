/-! what the methods compute, over the table -/
def cntB (g : Nat → Bool) : Nat → Int32
  | 0 => 0
  | k + 1 => cntB g k + (if g k then 1 else 0)
theorem cntB_congr {g g' : Nat → Bool} : ∀ {n : Nat}, (∀ k, k < n → g k = g' k) → cntB g n = cntB g' n
  | 0, _ => rfl
  | n + 1, h => by rw [cntB, cntB, cntB_congr (n := n) (fun k hk => h k (by omega)), h n (by omega)]
def jmax (a b : Int32) : Int32 := if a < b then b else a
def jmin (a b : Int32) : Int32 := if b < a then b else a
/-- a loan's units on a day, at a desk -/
def unitF (σ : Sg) (desk day : Int32) (k : Nat) : Int32 := if σ 28 k = desk ∧ σ 30 k ≤ day ∧ day ≤ σ 31 k then (if day - σ 30 k < σ 32 k then -2 * σ 29 k else 8 * σ 29 k) else 0
def unitsS (σ : Sg) (d : Nat) (day : Int32) : Nat → Int32
  | 0 => 8 * σ 33 d
  | k + 1 => unitsS σ d day k + unitF σ (nI d) day k
def unitsF (σ : Sg) (d : Nat) (day : Int32) : Int32 := jmax 0 (unitsS σ d day (tn (σ 34 3)))
def farS (σ : Sg) (p q : Nat) : Nat → Int32
  | 0 => 0
  | k + 1 => farS σ p q k + (σ 26 (5 * p + k) - σ 26 (5 * q + k)) * (σ 26 (5 * p + k) - σ 26 (5 * q + k))
def farF (σ : Sg) (p q : Nat) : Int32 := farS σ p q 5
def validB (σ : Sg) (x day : Int32) (b : Nat) : Bool := decide (σ 8 b = x ∧ σ 9 b ≤ day ∧ day < σ 10 b)
def validF (σ : Sg) (x day : Int32) : Int32 := cntB (validB σ x day) (tn (σ 7 4))
def inStF (σ : Sg) (lo hi : Int32) : Int32 := cntB (fun a => decide (lo ≤ σ 0 a ∧ σ 0 a ≤ hi)) (tn (σ 34 2))
def endsF (σ : Sg) (lo hi : Int32) : Int32 := cntB (fun b => decide (lo ≤ σ 10 b ∧ σ 10 b ≤ hi)) (tn (σ 7 4))
/-- the law of a day: the number of the last one that has begun -/
def lawS (σ : Sg) (day : Int32) : Nat → Int32
  | 0 => -1
  | k + 1 => if σ 38 k ≤ day ∧ (lawS σ day k < 0 ∨ σ 38 (tn (lawS σ day k)) ≤ σ 38 k) then nI k else lawS σ day k
def lawF (σ : Sg) (day : Int32) : Int32 := lawS σ day (tn (σ 34 0))
def tickB (σ : Sg) (a : Nat) : Bool := decide ((σ 23 a >>> ((6 : Int32) &&& 31)) &&& 1 = 1)
/-- whether one asking comes ahead of another by a rule -/
def aheadB (σ : Sg) (r : Int32) (a b : Nat) : Bool :=
  if σ 16 a ≠ σ 16 b then decide (σ 16 a ≠ 0)
  else if r = 0 ∧ σ 14 a ≠ σ 14 b then decide (σ 14 a < σ 14 b)
  else if r = 2 ∧ tickB σ a ≠ tickB σ b then tickB σ a
  else if 0 < r ∧ σ 15 a ≠ σ 15 b then decide (σ 15 a < σ 15 b)
  else decide (a < b)
def stAt (d : Int32) : Int32 := if d = 0 then 0 else if d = 1 then 2 else if d = 2 then 4 else 5
def lackF (σ : Sg) (a : Nat) : Int32 := σ 17 a &&& (σ 23 a ^^^ (-1))
/-- what an asking costs at a desk -/
def costF (σ : Sg) (d : Int32) (a : Nat) : Int32 := if d = 0 then (if σ 2 a < 0 then 2 else 1) else if d = 1 then 3 + σ 20 a else if d = 2 then 6 else 1
def anyB (g : Nat → Bool) : Nat → Bool
  | 0 => false
  | k + 1 => anyB g k || g k
/-- another person whose face is near -/
def nearB (σ : Sg) (p q : Nat) : Bool := decide (q ≠ p) && !decide (σ 34 5 < farF σ p q)
/-- what becomes of an asking as it is checked -/
def chkF (σ : Sg) (a : Nat) : Int32 :=
  if anyB (fun q => nearB σ (tn (σ 12 a)) q && decide (σ 27 (80 * tn (σ 12 a) + q) = 2)) (tn (σ 34 1)) then 9
  else if anyB (fun q => nearB σ (tn (σ 12 a)) q && decide (σ 27 (80 * tn (σ 12 a) + q) = 0)) (tn (σ 34 1)) then 3
  else if σ 21 a ≠ 0 ∨ σ 34 6 < σ 20 a then 4 else 5
/-- an asking's booklet is got (m: the world that is, where fees are paid back) -/
def getsF (m : Bool) (σ : Sg) (a : Nat) : Sg :=
  if m = false ∨ σ 22 a < 0 ∨ σ 7 0 - σ 15 a ≤ σ 22 a then up2 (up2 σ 0 a 7) 3 a (σ 7 0)
  else up2 (up2 (up2 (up2 σ 0 a 7) 3 a (σ 7 0)) 6 a 1) 7 5 (σ 7 5 + σ 18 a)
/-- the old booklets of a person end -/
def endS (σ : Sg) (a : Nat) : Nat → Sg
  | 0 => σ
  | k + 1 => if validB (endS σ a k) (σ 12 a) (σ 7 0) k then up2 (endS σ a k) 10 k (σ 7 0) else endS σ a k
def bookF (m : Bool) (σ : Sg) (a : Nat) : Sg :=
  if m then up2 (up2 (up2 (up2 (if σ 13 a = 3 then σ else endS σ a (tn (σ 7 4))) 8 (tn (σ 7 4)) (σ 12 a)) 9 (tn (σ 7 4)) (σ 7 0)) 10 (tn (σ 7 4)) (σ 7 0 + 365 * σ 19 a)) 11 (tn (σ 7 4)) (nI a)
  else σ
def postF (σ : Sg) (a : Nat) : Int32 := if σ 25 (tn (σ 12 a)) = 0 then σ 34 7 else σ 34 8
def prinF (m : Bool) (σ : Sg) (a : Nat) : Sg :=
  let τ := up2 (up2 (up2 (up2 (bookF m σ a) 1 a (σ 7 4)) 7 4 (σ 7 4 + 1)) 7 1 (σ 7 1 - 1)) 4 a (σ 7 0 + postF σ a)
  if postF σ a = 0 then getsF m τ a else up2 τ 0 a 6
def doesF (m : Bool) (σ : Sg) (d : Int32) (a : Nat) : Sg :=
  if d = 0 then up2 (up2 (up2 σ 2 a (σ 7 0)) 0 a (if lackF σ a = 0 then 2 else 1)) 5 a (σ 5 a + (if lackF σ a = 0 then 0 else 1))
  else if d = 1 then up2 σ 0 a (chkF σ a)
  else if d = 2 then up2 σ 0 a 5
  else prinF m σ a
/-- insertion into a row that is kept backwards -/
def insR (lt : Nat → Nat → Bool) (k : Nat) : List Nat → List Nat
  | [] => [k]
  | x :: t => if lt k x then x :: insR lt k t else k :: x :: t
def lineS (σ : Sg) (d r : Int32) : Nat → List Nat
  | 0 => []
  | k + 1 => if σ 0 k = stAt d then insR (aheadB σ r) k (lineS σ d r k) else lineS σ d r k
/-- those who wait at a desk, in order -/
def lineF (σ : Sg) (d r : Int32) : List Nat := (lineS σ d r (tn (σ 34 2))).reverse
def brokB (σ : Sg) (t : Int32) : Bool := decide (σ 34 10 ≤ t ∧ t ≤ σ 34 11)
def canP (σ : Sg) : Bool := decide (0 < σ 7 1) && !brokB σ (σ 7 0) && decide (σ 7 4 < 150)
def wkS (m : Bool) (d : Int32) (σ : Sg) (u : Int32) : List Nat → Sg × Int32
  | [] => (σ, u)
  | a :: t => if u < costF σ d a ∨ (d = 3 ∧ canP σ = false) then (σ, u) else wkS m d (doesF m σ d a) (u - costF σ d a) t
def unitD (σ : Sg) (d : Nat) : Int32 := if d = 0 then jmax 0 (unitsF σ d (σ 7 0) - σ 7 2) else unitsF σ d (σ 7 0)
def worksF (m : Bool) (σ : Sg) (d : Nat) (r : Int32) : Sg :=
  up2 (wkS m (nI d) σ (unitD σ d) (lineF σ (nI d) r)).1 7 3 ((wkS m (nI d) σ (unitD σ d) (lineF σ (nI d) r)).1 7 3 + (wkS m (nI d) σ (unitD σ d) (lineF σ (nI d) r)).2)
def worksL (m : Bool) (σ : Sg) (r : Int32) : Nat → Sg
  | 0 => σ
  | d + 1 => worksF m (worksL m σ r d) d r
def getL (m : Bool) (σ : Sg) : Nat → Sg
  | 0 => σ
  | k + 1 => if getL m σ k 0 k = 6 ∧ getL m σ k 4 k ≤ σ 7 0 then getsF m (getL m σ k) k else getL m σ k
def callB (σ : Sg) (a : Nat) : Bool := decide (σ 0 a ≤ 5 ∧ σ 34 4 < σ 7 0 - σ 14 a)
def callF (σ : Sg) : Int32 := cntB (callB σ) (tn (σ 34 2)) / 3
def dawnF (m : Bool) (σ : Sg) : Sg := getL m (up2 σ 7 0 (σ 7 0 + 1)) (tn (σ 34 2))
/-- a day -/
def dayF (m : Bool) (σ : Sg) (r : Int32) : Sg := worksL m (up2 (up2 (dawnF m σ) 7 2 (callF (dawnF m σ))) 7 3 0) r 4
/-- what does not move with the days is the same -/
def SameTh (σ σ' : Sg) : Prop := ∀ c i, 12 ≤ c → σ' c i = σ c i
theorem SameTh.rf {σ : Sg} : SameTh σ σ := fun _ _ _ => rfl
theorem SameTh.tr {a b c : Sg} (h1 : SameTh a b) (h2 : SameTh b c) : SameTh a c := fun x i h => (h2 x i h).trans (h1 x i h)
theorem SameTh.up {σ σ' : Sg} (h : SameTh σ σ') {c i : Nat} {v : Int32} (hc : c < 12) : SameTh σ (up2 σ' c i v) := fun x j hx => by rw [up2_eq, if_neg (fun q => by omega)]; exact h x j hx
theorem th_gets (m : Bool) (σ : Sg) (a : Nat) : SameTh σ (getsF m σ a) := by
  unfold getsF
  split
  · exact (SameTh.rf.up (by omega)).up (by omega)
  · exact (((SameTh.rf.up (by omega)).up (by omega)).up (by omega)).up (by omega)
theorem th_endS (σ : Sg) (a : Nat) : ∀ k, SameTh σ (endS σ a k)
  | 0 => SameTh.rf
  | k + 1 => by
    rw [endS]
    split
    · exact (th_endS σ a k).up (by omega)
    · exact th_endS σ a k
theorem th_book (m : Bool) (σ : Sg) (a : Nat) : SameTh σ (bookF m σ a) := by
  unfold bookF
  split
  · refine (((SameTh.up ?_ (by omega)).up (by omega)).up (by omega)).up (by omega)
    split
    · exact SameTh.rf
    · exact th_endS σ a _
  · exact SameTh.rf
theorem th_prin (m : Bool) (σ : Sg) (a : Nat) : SameTh σ (prinF m σ a) := by
  unfold prinF
  have h := ((((th_book m σ a).up (c := 1) (i := a) (v := σ 7 4) (by omega)).up (c := 7) (i := 4) (v := σ 7 4 + 1) (by omega)).up (c := 7) (i := 1) (v := σ 7 1 - 1) (by omega)).up (c := 4) (i := a) (v := σ 7 0 + postF σ a) (by omega)
  dsimp only
  split
  · exact h.tr (th_gets m _ a)
  · exact h.up (by omega)
theorem th_does (m : Bool) (σ : Sg) (d : Int32) (a : Nat) : SameTh σ (doesF m σ d a) := by
  unfold doesF
  split
  · exact ((SameTh.rf.up (by omega)).up (by omega)).up (by omega)
  · split
    · exact SameTh.rf.up (by omega)
    · split
      · exact SameTh.rf.up (by omega)
      · exact th_prin m σ a
theorem gets_74 (m : Bool) (σ : Sg) (a : Nat) : getsF m σ a 7 4 = σ 7 4 := by
  unfold getsF
  split <;> simp [up2_eq]
theorem prin_74 (m : Bool) (σ : Sg) (a : Nat) : prinF m σ a 7 4 = σ 7 4 + 1 := by
  unfold prinF
  split
  · rw [gets_74]; simp [up2_eq]
  · simp [up2_eq]
theorem does_74 (m : Bool) (σ : Sg) (d : Int32) (a : Nat) : doesF m σ d a 7 4 = if d = 0 ∨ d = 1 ∨ d = 2 then σ 7 4 else σ 7 4 + 1 := by
  unfold doesF
  by_cases h0 : d = 0
  · rw [if_pos h0, if_pos (Or.inl h0)]; simp [up2_eq]
  · rw [if_neg h0]
    by_cases h1 : d = 1
    · rw [if_pos h1, if_pos (Or.inr (Or.inl h1))]; simp [up2_eq]
    · rw [if_neg h1]
      by_cases h2 : d = 2
      · rw [if_pos h2, if_pos (Or.inr (Or.inr h2))]; simp [up2_eq]
      · rw [if_neg h2, if_neg (by simp [h0, h1, h2])]; exact prin_74 m σ a
theorem insR_mem (lt : Nat → Nat → Bool) (k x : Nat) : ∀ l : List Nat, x ∈ insR lt k l ↔ x = k ∨ x ∈ l
  | [] => by simp [insR]
  | y :: t => by
    rw [insR]
    split
    · rw [List.mem_cons, insR_mem lt k x t, List.mem_cons]
      constructor
      · rintro (h | h | h)
        · exact Or.inr (Or.inl h)
        · exact Or.inl h
        · exact Or.inr (Or.inr h)
      · rintro (h | h | h)
        · exact Or.inr (Or.inl h)
        · exact Or.inl h
        · exact Or.inr (Or.inr h)
    · rw [List.mem_cons]
theorem insR_len (lt : Nat → Nat → Bool) (k : Nat) : ∀ l : List Nat, (insR lt k l).length = l.length + 1
  | [] => rfl
  | y :: t => by
    rw [insR]
    split
    · rw [List.length_cons, insR_len lt k t, List.length_cons]
    · rfl
theorem lineS_lt (σ : Sg) (d r : Int32) : ∀ k x, x ∈ lineS σ d r k → x < k ∧ σ 0 x = stAt d
  | 0, x, h => by cases h
  | k + 1, x, h => by
    rw [lineS] at h
    split at h
    · rename_i e
      rcases (insR_mem _ _ _ _).mp h with rfl | h
      · exact ⟨Nat.lt_succ_self _, e⟩
      · exact ⟨by have := (lineS_lt σ d r k x h).1; omega, (lineS_lt σ d r k x h).2⟩
    · exact ⟨by have := (lineS_lt σ d r k x h).1; omega, (lineS_lt σ d r k x h).2⟩
theorem lineS_len (σ : Sg) (d r : Int32) : ∀ k, (lineS σ d r k).length ≤ k
  | 0 => Nat.le_refl _
  | k + 1 => by
    rw [lineS]
    have := lineS_len σ d r k
    split
    · rw [insR_len]; omega
    · omega
/-- the numbers that the days' work rests on -/
def PD (σ : Sg) (n np nl : Nat) : Prop := (σ 34 2 = nI n ∧ n ≤ 120) ∧ (σ 34 1 = nI np ∧ np ≤ 80) ∧ (σ 34 3 = nI nl ∧ nl ≤ 20) ∧ (∀ a, a < n → ∃ p, p < np ∧ σ 12 a = nI p) ∧ (∀ a, a < n → σ 16 a = 0 ∨ σ 16 a = 1)
theorem PD.th {σ σ' : Sg} {n np nl : Nat} (h : PD σ n np nl) (ht : SameTh σ σ') : PD σ' n np nl := by
  obtain ⟨⟨h1, h2⟩, ⟨h3, h4⟩, ⟨h5, h6⟩, h7, h8⟩ := h
  refine ⟨⟨(ht 34 2 (by omega)).trans h1, h2⟩, ⟨(ht 34 1 (by omega)).trans h3, h4⟩, ⟨(ht 34 3 (by omega)).trans h5, h6⟩, fun a ha => ?_, fun a ha => ?_⟩
  · rw [ht 12 a (by omega)]; exact h7 a ha
  · rw [ht 16 a (by omega)]; exact h8 a ha
/-- the Model's break of the press is the Office's -/
def BR (σ : Sg) : Prop := ∀ t, decide (σ 34 16 ≤ t ∧ t ≤ σ 34 17) = brokB σ t
theorem BR.th {σ σ' : Sg} (h : BR σ) (ht : SameTh σ σ') : BR σ' := fun t => by
  unfold brokB
  rw [ht 34 16 (by omega), ht 34 17 (by omega), ht 34 10 (by omega), ht 34 11 (by omega)]
  exact h t
