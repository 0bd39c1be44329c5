/-! what conditions and laws say to facts -/
def fctB (φ : Nat → Int32) (q : Sp3) : Bool := if q.2.1 = 0 then decide (φ (tn q.1) ≠ 0) else if q.2.1 = 1 then decide (φ (tn q.1) < q.2.2) else decide (q.2.2 < φ (tn q.1))
def evO (φ : Nat → Int32) (q : Sp3) (s : List Bool) : Option (List Bool) :=
  if q.1 = 100 then (match s with | b :: t => some ((!b) :: t) | [] => none)
  else if 101 ≤ q.1 then (match s with | b :: a :: t => some ((if q.1 = 101 then a && b else a || b) :: t) | _ => none)
  else if 0 ≤ q.1 ∧ q.1 ≤ 8 then some (fctB φ q :: s) else none
def evL (φ : Nat → Int32) : List Sp3 → List Bool → Option (List Bool)
  | [], s => some s
  | q :: t, s => match evO φ q s with
    | none => none
    | some s' => evL φ t s'
theorem evL_app (φ : Nat → Int32) : ∀ (l l' : List Sp3) (s : List Bool), evL φ (l ++ l') s = (evL φ l s).bind (evL φ l')
  | [], l', s => rfl
  | q :: t, l', s => by
    rw [List.cons_append, evL, evL]
    cases evO φ q s with
    | none => rfl
    | some s' => exact evL_app φ t l' s'
/-- a clause holds -/
def hldB (φ : Nat → Int32) (q : Cl3) : Bool := match evL φ q.2.2 [] with
  | some (v :: _) => v
  | _ => true
abbrev Rul : Type := Int32 × Int32 × Int32 × Int32 × Int32 × Int32
/-- needs, fee, years, risk, back, see -/
def jStp (φ : Nat → Int32) (r : Rul) (q : Cl3) : Rul :=
  if hldB φ q then
    (if q.1 = 0 then (r.1 ||| q.2.1, r.2.1, r.2.2.1, r.2.2.2.1, r.2.2.2.2.1, r.2.2.2.2.2)
     else if q.1 = 1 then (r.1, r.2.1 + q.2.1, r.2.2.1, r.2.2.2.1, r.2.2.2.2.1, r.2.2.2.2.2)
     else if q.1 = 2 then (r.1, r.2.1, jmax r.2.2.1 q.2.1, r.2.2.2.1, r.2.2.2.2.1, r.2.2.2.2.2)
     else if q.1 = 3 then (r.1, r.2.1, r.2.2.1, r.2.2.2.1 + q.2.1, r.2.2.2.2.1, r.2.2.2.2.2)
     else if q.1 = 4 then (r.1, r.2.1, r.2.2.1, r.2.2.2.1, r.2.2.2.2.1, 1)
     else (r.1, r.2.1, r.2.2.1, r.2.2.2.1, (if r.2.2.2.2.1 < 0 then q.2.1 else jmin r.2.2.2.2.1 q.2.1), r.2.2.2.2.2))
  else r
def jLn (φ : Nat → Int32) (l : List Cl3) : Nat → Rul
  | 0 => (0, 0, -1, 0, -1, 0)
  | k + 1 => jStp φ (jLn φ l k) (l.getD k (0, 0, []))
def phiF (σ : Sg) (p : Nat) (kind wanted : Int32) (u : Bool) (j : Nat) : Int32 :=
  if j = 0 then (σ 7 0 - σ 24 p) / 365 else if j = 1 then wanted - σ 7 0 else if j = 2 then validF σ (nI p) (σ 7 0) else if j = 3 then (if σ 25 p = 0 then 0 else 1) else if j = 8 then bI u else if kind = nI (j - 4) then 1 else 0
def yrF (r : Rul) : Rul := (r.1, r.2.1, (if r.2.2.1 < 0 then 10 else r.2.2.1), r.2.2.2.1, r.2.2.2.2.1, r.2.2.2.2.2)
def rulF (σ : Sg) (Λ : Lws) (p : Nat) (kind wanted : Int32) (u : Bool) : Rul :=
  yrF (if lawF σ (σ 7 0) < 0 then (0, 0, -1, 0, -1, 0) else jLn (phiF σ p kind wanted u) (Λ (tn (lawF σ (σ 7 0)))) (Λ (tn (lawF σ (σ 7 0)))).length)
/-- all the laws' conditions are well made -/
def EvOK (σ : Sg) (Λ : Lws) : Prop := ∀ l, l < tn (σ 34 0) → ∀ c, c < (Λ l).length → (0 ≤ ((Λ l).getD c (0, 0, [])).1 ∧ ((Λ l).getD c (0, 0, [])).1 ≤ 5) ∧ ∀ φ, ∃ R, evL φ ((Λ l).getD c (0, 0, [])).2.2 [] = some R ∧ R.length ≤ 1
def pJudge (σ : Sg) (Λ : Lws) (p kind wanted : Int32) (u : Bool) (w : Int32) : Op1 :=
  if ¬ isP σ p then (σ, 1, 0) else if ¬ isK σ kind wanted then (σ, 2, 0) else if ¬ (0 ≤ w ∧ w ≤ 5) then (σ, 3, 0) else
  (σ, 0, let r := rulF σ Λ (tn p) kind wanted u; if w = 0 then r.1 else if w = 1 then r.2.1 else if w = 2 then r.2.2.1 else if w = 3 then r.2.2.2.1 else if w = 4 then r.2.2.2.2.2 else r.2.2.2.2.1)
def askF (σ : Sg) (r : Rul) (p kind wanted items : Int32) (u : Bool) (a : Nat) : Sg :=
  up2 (up2 (up2 (up2 (up2 (up2 (up2 (up2 (up2 (up2 (up2 (up2 (up2 (up2 (up2 (up2 (up2 (up2 (up2 σ 34 2 (σ 34 2 + 1)) 12 a p) 13 a kind) 14 a (σ 7 0)) 15 a wanted) 23 a items) 16 a (bI u)) 17 a r.1) 18 a r.2.1) 19 a r.2.2.1) 20 a r.2.2.2.1) 21 a r.2.2.2.2.2) 22 a r.2.2.2.2.1) 0 a 0) 1 a (-1)) 2 a (-1)) 3 a (-1)) 4 a (-1)) 34 12 (σ 34 12 + r.2.1)
def pAsk (σ : Sg) (Λ : Lws) (p kind wanted items : Int32) (u : Bool) : Op1 :=
  if ¬ isP σ p then (σ, 1, 0) else if ¬ (isK σ kind wanted ∧ (0 ≤ items ∧ items ≤ 255)) then (σ, 2, 0) else if σ 34 2 = 120 then (σ, 3, 0) else
  (askF σ (rulF σ Λ (tn p) kind wanted u) p kind wanted items u (tn (σ 34 2)), 0, σ 34 2)
