/-! the operations over the table: the new table, the code of what is thrown, the answer -/
abbrev Op1 : Type := Sg × Int32 × Int32
abbrev isP (σ : Sg) (x : Int32) : Prop := 0 ≤ x ∧ x ≤ σ 34 1 - 1
abbrev isA (σ : Sg) (x : Int32) : Prop := 0 ≤ x ∧ x ≤ σ 34 2 - 1
abbrev isD (x : Int32) : Prop := 0 ≤ x ∧ x ≤ 3
abbrev isK (σ : Sg) (kind wanted : Int32) : Prop := (0 ≤ kind ∧ kind ≤ 3) ∧ (σ 7 0 ≤ wanted ∧ wanted ≤ 1000)
def byT (x : Int32) : Int32 := x.toInt8.toInt32
def fiv (a b c d e : Int32) (j : Nat) : Int32 := if j = 0 then a else if j = 1 then b else if j = 2 then c else if j = 3 then d else e
def feedB (f : Nat → Int32) (k : Nat) : Int32 := byT (f (k / 4) >>> (nI (24 - 8 * (k % 4)) &&& 31))
def feedS (σ : Sg) (f : Nat → Int32) : Nat → Sg
  | 0 => σ
  | k + 1 => up2 (feedS σ f k) 35 (tn (σ 34 15) + k) (feedB f k)
def pFeed (σ : Sg) (a b c d e : Int32) : Op1 := if 400 < σ 34 15 + 20 then (σ, 0, -1) else (up2 (feedS σ (fiv a b c d e) 20) 34 15 (σ 34 15 + 20), 0, σ 34 15 + 20)
def pEnd (σ : Sg) (n : Int32) : Op1 := if n < 0 ∨ σ 34 15 < n then (σ, 0, 0) else (up2 σ 34 15 n, 0, 1)
def pFault (σ : Sg) : Op1 := (σ, 0, σ 34 14)
abbrev fc (a : Int32) : Prop := 0 ≤ a ∧ a ≤ 99
def pPerson (σ : Sg) (b : Int32) (f : Bool) (a1 a2 a3 a4 a5 : Int32) : Op1 :=
  if ¬ ((-40000 ≤ b ∧ b ≤ σ 7 0) ∧ fc a1 ∧ fc a2 ∧ fc a3 ∧ fc a4 ∧ fc a5) then (σ, 1, 0) else if σ 34 1 = 80 then (σ, 2, 0) else
  (up2 (up2 (up2 (up2 (up2 (up2 (up2 (up2 σ 24 (tn (σ 34 1)) b) 25 (tn (σ 34 1)) (bI f)) 26 (5 * tn (σ 34 1) + 0) a1) 26 (5 * tn (σ 34 1) + 1) a2) 26 (5 * tn (σ 34 1) + 2) a3) 26 (5 * tn (σ 34 1) + 3) a4) 26 (5 * tn (σ 34 1) + 4) a5) 34 1 (σ 34 1 + 1), 0, σ 34 1)
def pSign (σ : Sg) (p i : Int32) : Op1 := if ¬ isP σ p then (σ, 1, 0) else (σ, 0, if σ 36 (tn p) ≠ 0 ∧ 0 ≤ i ∧ i ≤ 23 then σ 37 (24 * tn p + tn i) else -1)
def figW (c : Int32) : Int32 := if c = 60 then 0 else c - 65 + 10
def figM (k : Nat) : Int32 := if k % 3 = 0 then 7 else if k % 3 = 1 then 3 else 1
def figS (σ : Sg) (p : Nat) : Nat → Int32
  | 0 => 0
  | k + 1 => figS σ p k + figW (σ 37 (24 * p + k)) * figM k
def pFigure (σ : Sg) (p : Int32) : Op1 := if ¬ isP σ p then (σ, 1, 0) else (σ, 0, if σ 36 (tn p) = 0 then -1 else figS σ (tn p) 24 - figS σ (tn p) 24 / 10 * 10)
def pFar (σ : Sg) (a b : Int32) : Op1 := if ¬ (isP σ a ∧ isP σ b) then (σ, 1, 0) else (σ, 0, farF σ (tn a) (tn b))
/-- those that are held are checked again -/
def tellS (σ : Sg) : Nat → Sg × Int32
  | 0 => (σ, 0)
  | k + 1 => if (tellS σ k).1 0 k = 3 then (up2 (tellS σ k).1 0 k (chkF (tellS σ k).1 k), (tellS σ k).2 + (if chkF (tellS σ k).1 k = 3 then 0 else 1)) else tellS σ k
def pTell (σ : Sg) (a b : Int32) (s : Bool) : Op1 :=
  if ¬ (isP σ a ∧ isP σ b) then (σ, 1, 0) else if a = b then (σ, 2, 0) else
  let τ := up2 (up2 σ 27 (80 * tn a + tn b) (if s then 2 else 1)) 27 (80 * tn b + tn a) (if s then 2 else 1)
  ((tellS τ (tn (σ 34 2))).1, 0, (tellS τ (tn (σ 34 2))).2)
def pGive (σ : Sg) (a x : Int32) : Op1 :=
  if ¬ isA σ a then (σ, 1, 0) else if ¬ (0 ≤ x ∧ x ≤ 255) then (σ, 2, 0) else if σ 0 (tn a) ≠ 1 then (σ, 3, 0) else
  let τ := up2 σ 23 (tn a) (σ 23 (tn a) ||| x)
  (if lackF τ (tn a) = 0 then up2 τ 0 (tn a) 0 else τ, 0, lackF τ (tn a))
def pHands (σ : Sg) (d n : Int32) : Op1 := if ¬ isD d then (σ, 1, 0) else if ¬ (0 ≤ n ∧ n ≤ 30) then (σ, 2, 0) else (up2 σ 33 (tn d) n, 0, 0)
def pLend (σ : Sg) (d n f t g : Int32) : Op1 :=
  if ¬ isD d then (σ, 1, 0) else if ¬ ((1 ≤ n ∧ n ≤ 30) ∧ σ 7 0 ≤ f ∧ f ≤ t ∧ t ≤ 1000 ∧ (0 ≤ g ∧ g ≤ 30)) then (σ, 2, 0) else if σ 34 3 = 20 then (σ, 0, -1) else
  (up2 (up2 (up2 (up2 (up2 (up2 σ 28 (tn (σ 34 3)) d) 29 (tn (σ 34 3)) n) 30 (tn (σ 34 3)) f) 31 (tn (σ 34 3)) t) 32 (tn (σ 34 3)) g) 34 3 (σ 34 3 + 1), 0, σ 34 3 + 1)
def pUnits (σ : Sg) (d t : Int32) : Op1 := if ¬ isD d then (σ, 1, 0) else (σ, 0, unitsF σ (tn d) t)
def pRules (σ : Sg) (a b c d e : Int32) : Op1 :=
  if ¬ ((1 ≤ a ∧ a ≤ 200) ∧ (0 ≤ b ∧ b ≤ 10000) ∧ (0 ≤ c ∧ c ≤ 1000) ∧ (0 ≤ d ∧ d ≤ 60) ∧ (0 ≤ e ∧ e ≤ 60)) then (σ, 1, 0) else
  (up2 (up2 (up2 (up2 (up2 σ 34 4 a) 34 5 b) 34 6 c) 34 7 d) 34 8 e, 0, 0)
def pOrder (σ : Sg) (r : Int32) : Op1 := if ¬ (0 ≤ r ∧ r ≤ 2) then (σ, 1, 0) else (up2 σ 34 9 r, 0, 0)
def pBlanks (σ : Sg) (n : Int32) : Op1 := if ¬ ((0 ≤ n ∧ n ≤ 1000) ∧ σ 7 1 + n ≤ 10000) then (σ, 1, 0) else (up2 σ 7 1 (σ 7 1 + n), 0, σ 7 1 + n)
def pBroken (σ : Sg) (f t : Int32) : Op1 := if t < f then (σ, 1, 0) else (up2 (up2 (up2 (up2 σ 34 10 f) 34 11 t) 34 16 f) 34 17 t, 0, 0)
def daysL (σ : Sg) : Nat → Sg
  | 0 => σ
  | k + 1 => if daysL σ k 7 0 < 1000 then up2 (dayF true (daysL σ k) (daysL σ k 34 9)) 34 13 (daysL σ k 34 13 + callF (dawnF true (daysL σ k))) else daysL σ k
def pDays (σ : Sg) (n : Int32) : Op1 := if ¬ (0 ≤ n ∧ n ≤ 60) then (σ, 1, 0) else (daysL σ (tn n), 0, daysL σ (tn n) 7 0)
def pRefuse (σ : Sg) (a : Int32) : Op1 := if ¬ isA σ a then (σ, 1, 0) else if 5 < σ 0 (tn a) then (σ, 2, 0) else (up2 σ 0 (tn a) 9, 0, 0)
def pLose (σ : Sg) (a : Int32) : Op1 := if ¬ isA σ a then (σ, 1, 0) else if σ 0 (tn a) ≠ 6 then (σ, 2, 0) else (up2 (up2 σ 0 (tn a) 8) 10 (tn (σ 1 (tn a))) (jmin (σ 10 (tn (σ 1 (tn a)))) (σ 7 0)), 0, 0)
def pAgain (σ : Sg) (a : Int32) : Op1 := if ¬ isA σ a then (σ, 1, 0) else if σ 0 (tn a) ≠ 8 then (σ, 2, 0) else (up2 (up2 σ 0 (tn a) 5) 4 (tn a) (-1), 0, 0)
def ledF (σ : Sg) (a : Nat) (w : Int32) : Int32 :=
  if w = 0 then σ 0 a else if w = 1 then σ 12 a else if w = 2 then σ 13 a else if w = 3 then σ 14 a else if w = 4 then σ 15 a else if w = 5 then σ 23 a else if w = 6 then lackF σ a else if w = 7 then σ 18 a else
  if w = 8 then σ 6 a else if w = 9 then σ 20 a else if w = 10 then σ 19 a else if w = 11 then σ 1 a else if w = 12 then σ 2 a else if w = 13 then σ 3 a else if w = 14 then σ 4 a else σ 5 a
def pLed (σ : Sg) (a w : Int32) : Op1 := if ¬ isA σ a then (σ, 1, 0) else if ¬ (0 ≤ w ∧ w ≤ 15) then (σ, 2, 0) else (σ, 0, ledF σ (tn a) w)
def pQueue (σ : Sg) (d : Int32) : Op1 := if ¬ isD d then (σ, 1, 0) else (σ, 0, nI (lineF σ d (σ 34 9)).length)
def deskF (s : Int32) : Int32 := if s = 0 then 0 else if s = 2 then 1 else if s = 4 then 2 else if s = 5 then 3 else -1
def aheadN (σ : Sg) (r : Int32) (a : Nat) (d : Int32) : Int32 := cntB (fun b => decide (b ≠ a) && decide (σ 0 b = stAt d) && aheadB σ r b a) (tn (σ 34 2))
def pAhead (σ : Sg) (a : Int32) : Op1 := if ¬ isA σ a then (σ, 1, 0) else (σ, 0, if deskF (σ 0 (tn a)) = -1 then -1 else aheadN σ (σ 34 9) (tn a) (deskF (σ 0 (tn a))))
def pBooklet (σ : Sg) (b w : Int32) : Op1 := if ¬ (0 ≤ b ∧ b ≤ σ 7 4 - 1) then (σ, 1, 0) else if ¬ (0 ≤ w ∧ w ≤ 3) then (σ, 2, 0) else (σ, 0, if w = 0 then σ 8 (tn b) else if w = 1 then σ 9 (tn b) else if w = 2 then σ 10 (tn b) else σ 11 (tn b))
def pValid (σ : Sg) (p t : Int32) : Op1 := if ¬ isP σ p then (σ, 1, 0) else (σ, 0, validF σ p t)
def pEnds (σ : Sg) (f t : Int32) : Op1 := (σ, 0, endsF σ f t)
def countF (σ : Sg) (w : Int32) : Int32 :=
  if w = 0 then σ 7 0 else if w = 1 then σ 34 1 else if w = 2 then σ 34 0 else if w = 3 then σ 34 2 else if w = 4 then inStF σ 0 5 else if w = 5 then inStF σ 7 7 else if w = 6 then inStF σ 3 3 else if w = 7 then σ 7 4 else if w = 8 then σ 7 1 else
  if w = 9 then σ 34 12 else if w = 10 then σ 7 5 else if w = 11 then σ 7 2 else if w = 12 then σ 34 13 else if w = 13 then σ 34 3 else if w = 14 then σ 7 3 else if w = 15 then (if lawF σ (σ 7 0) < 0 then 0 else σ 39 (tn (lawF σ (σ 7 0)))) else
  if w = 16 then inStF σ 9 9 else if w = 17 then inStF σ 8 8 else -1
def pCount (σ : Sg) (w : Int32) : Op1 := (σ, 0, countF σ w)
/-- what the trial has missed -/
def dayN (m : Bool) (σ : Sg) (r : Int32) : Nat → Sg
  | 0 => σ
  | k + 1 => dayF m (dayN m σ r k) r
def missB (σ τ : Sg) (a : Nat) : Bool := !(decide (6 < σ 0 a) || decide (τ 7 0 < σ 15 a)) && !(decide (0 ≤ τ 3 a) && decide (τ 3 a ≤ σ 15 a))
def pMissed (m : Bool) (σ : Sg) (r n : Int32) : Op1 := if ¬ ((0 ≤ r ∧ r ≤ 2) ∧ (0 ≤ n ∧ n ≤ 60)) then (σ, 1, 0) else (σ, 0, cntB (missB σ (dayN m σ r (tn n))) (tn (σ 34 2)))
/-- those got, by day and number -/
def gotS (σ : Sg) (kind : Int32) : Nat → List Nat
  | 0 => []
  | k + 1 => if σ 13 k = kind ∧ σ 0 k = 7 then insR (fun a b => decide (σ 3 a < σ 3 b)) k (gotS σ kind k) else gotS σ kind k
/-- insertion of numbers into a row that is kept backwards -/
def insI (v : Int32) : List Int32 → List Int32
  | [] => [v]
  | x :: t => if v < x then x :: insI v t else v :: x :: t
def waitS (σ : Sg) (l : List Nat) (many : Nat) : Nat → List Int32
  | 0 => []
  | k + 1 => insI (σ 3 (l.getD (l.length - many + k) 0) - σ 14 (l.getD (l.length - many + k) 0)) (waitS σ l many k)
def waitF (σ : Sg) (kind : Int32) (most : Bool) : Int32 :=
  let l := (gotS σ kind (tn (σ 34 2))).reverse
  let many := min 20 l.length
  let w := (waitS σ l many many).reverse
  if many = 0 then -1 else if most then w.getD (many - 1 - many / 10) 0 else w.getD (many / 10) 0
def pWaits (σ : Sg) (kind : Int32) (most : Bool) : Op1 := if ¬ (0 ≤ kind ∧ kind ≤ 3) then (σ, 1, 0) else (σ, 0, waitF σ kind most)
