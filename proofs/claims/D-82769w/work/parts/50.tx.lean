/-! the Office as a whole, between two calls -/
/-- a fact's question, as the Office holds it -/
def fcX (φ : Nat → Int32) (j : Nat) (how than : Int32) : Bool := if how = 60 then decide (φ j < than) else if how = 62 then decide (than < φ j) else decide (φ j ≠ 0)
/-- a tree of conditions, of at most some depth, and what it says -/
def CdX (μ : Mem) : Nat → Nat × Nat → ((Nat → Int32) → Bool) → Prop
  | 0, _, _ => False
  | d + 1, h, f =>
    (h.1 = 29 ∧ h.2 < gC μ 29 ∧ ∃ j, j < 9 ∧ gI μ 29 h.2 0 = nI j ∧ ∀ φ, f φ = fcX φ j (gI μ 29 h.2 2) (gI μ 29 h.2 1)) ∨
    (h.1 = 30 ∧ h.2 < gC μ 30 ∧ ∃ h' f', gP μ 30 h.2 0 = some h' ∧ CdX μ d h' f' ∧ ∀ φ, f φ = !f' φ) ∨
    (h.1 = 31 ∧ h.2 < gC μ 31 ∧ ∃ h1 h2 f1 f2, gP μ 31 h.2 0 = some h1 ∧ gP μ 31 h.2 1 = some h2 ∧ CdX μ d h1 f1 ∧ CdX μ d h2 f2 ∧ ∀ φ, f φ = if gI μ 31 h.2 2 = 0 then f1 φ || f2 φ else f1 φ && f2 φ)
/-- cells of some pools are kept as they are -/
def KP (μ μ' : Mem) : Prop := ∀ p, (p = 25 ∨ (27 ≤ p ∧ p ≤ 31)) → gC μ p ≤ gC μ' p ∧ ∀ i, i < gC μ p → gL μ' p i = gL μ p i ∧ ∀ k, gI μ' p i k = gI μ p i k ∧ gP μ' p i k = gP μ p i k
section TX
variable {μ μ' μ'' : Mem} {σ σ' : Sg} {Λ : Lws} {Q : Res → Mem → Prop}
theorem KP.rf : KP μ μ := fun _ _ => ⟨Nat.le_refl _, fun _ _ => ⟨rfl, fun _ => ⟨rfl, rfl⟩⟩⟩
theorem KP.tr (h1 : KP μ μ') (h2 : KP μ' μ'') : KP μ μ'' := fun p hp => by
  obtain ⟨a1, a2⟩ := h1 p hp
  obtain ⟨b1, b2⟩ := h2 p hp
  refine ⟨Nat.le_trans a1 b1, fun i hi => ?_⟩
  obtain ⟨c1, c2⟩ := a2 i hi
  obtain ⟨d1, d2⟩ := b2 i (Nat.lt_of_lt_of_le hi a1)
  exact ⟨d1.trans c1, fun k => ⟨(d2 k).1.trans (c2 k).1, (d2 k).2.trans (c2 k).2⟩⟩
theorem KP.fx {S : Nat → Nat → Nat → Prop} {T : Nat → Prop} (h : FX S T μ μ') (hS : ∀ p i k, (p = 25 ∨ (27 ≤ p ∧ p ≤ 31)) → ¬ S p i k) (hT : ∀ p, (p = 25 ∨ (27 ≤ p ∧ p ≤ 31)) → ¬ T p) : KP μ μ' := fun p hp => by
  refine ⟨Nat.le_of_eq (h.C (hT p hp)).symm, fun i _ => ⟨h.L i (hT p hp), fun k => ⟨h.I (hS p i k hp), h.P i k (hT p hp)⟩⟩⟩
theorem KP.sI {p i k : Nat} {x : Int32} (hp : ¬ (p = 25 ∨ (27 ≤ p ∧ p ≤ 31)) ∨ gC μ p ≤ i) : KP μ (sI μ p i k x) := fun p' hp' => by
  refine ⟨Nat.le_refl _, fun i' hi' => ⟨rfl, fun k' => ⟨?_, rfl⟩⟩⟩
  rw [gI_sI, if_neg]
  rintro ⟨rfl, rfl, -⟩
  rcases hp with q | q
  · exact q hp'
  · omega
theorem KP.sP {p i k : Nat} {x : Option (Nat × Nat)} (hp : ¬ (p = 25 ∨ (27 ≤ p ∧ p ≤ 31)) ∨ gC μ p ≤ i) : KP μ (sP μ p i k x) := fun p' hp' => by
  refine ⟨Nat.le_refl _, fun i' hi' => ⟨rfl, fun k' => ⟨rfl, ?_⟩⟩⟩
  rw [gP_sP, if_neg]
  rintro ⟨rfl, rfl, -⟩
  rcases hp with q | q
  · exact q hp'
  · omega
theorem KP.nw {p n : Nat} (hn : ¬ (p = 27 ∨ p = 46) → n = fl p) : KP μ (nw μ p n) := fun p' hp' => by
  refine ⟨Mn_nw μ p n p', fun i' hi' => ?_⟩
  have e : ¬ (p' = p ∧ i' = gC μ p) := by
    rintro ⟨rfl, rfl⟩
    omega
  exact ⟨by rw [gL_nw _ _ _ _ _ hn, if_neg e], fun k' => ⟨by rw [gI_nw, if_neg e], by rw [gP_nw, if_neg e]⟩⟩
theorem CdX.kp (hk : KP μ μ') : ∀ {d : Nat} {h : Nat × Nat} {f : (Nat → Int32) → Bool}, CdX μ d h f → CdX μ' d h f
  | 0, _, _, q => q
  | d + 1, h, f, q => by
    unfold CdX at q ⊢
    rcases q with ⟨e, l, j, hj, g, hf⟩ | ⟨e, l, h', f', g, hc, hf⟩ | ⟨e, l, h1, h2, f1, f2, g1, g2, c1, c2, hf⟩
    · have a := hk 29 (by omega)
      have b := (a.2 h.2 l).2
      exact Or.inl ⟨e, by omega, j, hj, by rw [(b 0).1]; exact g, by rw [(b 2).1, (b 1).1]; exact hf⟩
    · have a := hk 30 (by omega)
      have b := (a.2 h.2 l).2
      exact Or.inr (Or.inl ⟨e, by omega, h', f', by rw [(b 0).2]; exact g, CdX.kp hk hc, hf⟩)
    · have a := hk 31 (by omega)
      have b := (a.2 h.2 l).2
      exact Or.inr (Or.inr ⟨e, by omega, h1, h2, f1, f2, by rw [(b 0).2]; exact g1, by rw [(b 1).2]; exact g2, CdX.kp hk c1, CdX.kp hk c2, by rw [(b 2).1]; exact hf⟩)
theorem CdX.mono : ∀ {d d' : Nat} {h : Nat × Nat} {f : (Nat → Int32) → Bool}, d ≤ d' → CdX μ d h f → CdX μ d' h f
  | 0, _, _, _, _, q => absurd q id
  | d + 1, 0, _, _, hd, _ => by omega
  | d + 1, d' + 1, h, f, hd, q => by
    unfold CdX at q ⊢
    rcases q with q | ⟨e, l, h', f', g, hc, hf⟩ | ⟨e, l, h1, h2, f1, f2, g1, g2, c1, c2, hf⟩
    · exact Or.inl q
    · exact Or.inr (Or.inl ⟨e, l, h', f', g, CdX.mono (by omega) hc, hf⟩)
    · exact Or.inr (Or.inr ⟨e, l, h1, h2, f1, f2, g1, g2, CdX.mono (by omega) c1, CdX.mono (by omega) c2, hf⟩)
/-- the Office's number of a clause's sort -/
def wX (s : Int32) : Int32 := if s = 5 then 2 else if s = 2 then 3 else if s = 3 then 4 else if s = 4 then 5 else s
/-- a clause, as the Office holds it -/
def clX (μ : Mem) (h : Nat) (q : Cl3) : Prop := h < gC μ 28 ∧ (0 ≤ q.1 ∧ q.1 ≤ 5) ∧ gI μ 28 h 0 = wX q.1 ∧ (q.1 = 0 → ∃ j, j < 8 ∧ gI μ 28 h 1 = nI j ∧ q.2.1 = (1 : Int32) <<< (nI j &&& 31)) ∧ (q.1 ≠ 0 → q.1 ≠ 4 → gI μ 28 h 1 = q.2.1 ∧ 0 ≤ q.2.1 ∧ q.2.1 ≤ 9999) ∧
  ((q.2.2 = [] ∧ gP μ 28 h 2 = none) ∨ ∃ hc f, gP μ 28 h 2 = some hc ∧ CdX μ 400 hc f ∧ ∀ φ stk, evL φ q.2.2 stk = some (f φ :: stk))
theorem clX.kp (hk : KP μ μ') {h : Nat} {q : Cl3} (hc : clX μ h q) : clX μ' h q := by
  obtain ⟨h1, h2, h3, h4, h5, h6⟩ := hc
  have a := hk 28 (by omega)
  have b := (a.2 h h1).2
  refine ⟨by omega, h2, by rw [(b 0).1]; exact h3, by rw [(b 1).1]; exact h4, by rw [(b 1).1]; exact h5, ?_⟩
  rw [(b 2).2]
  rcases h6 with q | ⟨hc, f, g1, g2, g3⟩
  · exact Or.inl q
  · exact Or.inr ⟨hc, f, g1, g2.kp hk, g3⟩
def LawX (σ : Sg) (Λ : Lws) (μ : Mem) : Prop := ∀ l, l < tn (σ 34 0) → l < gC μ 27 ∧ gP μ 26 l 2 = some (27, l) ∧ gL μ 27 l = (Λ l).length ∧ σ 39 l = nI (Λ l).length ∧ (Λ l).length ≤ 16 ∧ ∀ c, c < (Λ l).length → ∃ h, gP μ 27 l c = some (28, h) ∧ clX μ h ((Λ l).getD c (0, 0, []))
theorem LawX.kp (hk : KP μ μ') (h : LawX σ Λ μ) (e0 : σ' 34 0 = σ 34 0) (e39 : ∀ l, σ' 39 l = σ 39 l) (e26 : ∀ l, l < tn (σ 34 0) → gP μ' 26 l 2 = gP μ 26 l 2) : LawX σ' Λ μ' := by
  intro l hl
  rw [e0] at hl
  obtain ⟨h1, h2, h3, h4, h5, h6⟩ := h l hl
  have a := hk 27 (by omega)
  have b := a.2 l h1
  refine ⟨by omega, by rw [e26 l hl]; exact h2, by rw [b.1]; exact h3, by rw [e39]; exact h4, h5, fun c hc => ?_⟩
  obtain ⟨h, g1, g2⟩ := h6 c hc
  exact ⟨h, by rw [(b.2 c).2]; exact g1, g2.kp hk⟩
def NameX (σ : Sg) (μ : Mem) : Prop := ∀ p, p < tn (σ 34 1) → (σ 36 p = 0 → gP μ 23 p 3 = none) ∧ (σ 36 p ≠ 0 → ∃ j, j < gC μ 25 ∧ gP μ 23 p 3 = some (25, j) ∧ ∀ k, k < 24 → gI μ 25 j k = σ 37 (24 * p + k))
theorem NameX.kp (hk : KP μ μ') (h : NameX σ μ) (e1 : σ' 34 1 = σ 34 1) (e36 : ∀ p, σ' 36 p = σ 36 p) (e37 : ∀ p, σ' 37 p = σ 37 p) (e23 : ∀ p, p < tn (σ 34 1) → gP μ' 23 p 3 = gP μ 23 p 3) : NameX σ' μ' := by
  intro p hp
  rw [e1] at hp
  obtain ⟨h1, h2⟩ := h p hp
  rw [e36, e23 p hp]
  refine ⟨h1, fun q => ?_⟩
  obtain ⟨j, g1, g2, g3⟩ := h2 q
  have a := hk 25 (by omega)
  exact ⟨j, by omega, g2, fun k hk' => by rw [((a.2 j g1).2 k).1, e37]; exact g3 k hk'⟩
abbrev XPs (σ : Sg) (μ : Mem) : Prop := XP (tn (σ 34 1)) (tn (σ 34 2)) (tn (σ 34 3)) (tn (σ 7 4)) (tn (σ 34 0)) μ
def TX (σ : Sg) (Λ : Lws) (μ : Mem) : Prop := XPs σ μ ∧ RepX 0 σ μ ∧ LawX σ Λ μ ∧ NameX σ μ
/-- only the Office's memory has changed -/
def Fx (μ μ' : Mem) : Prop := ∀ p i k, 50 ≤ p → gI μ' p i k = gI μ p i k ∧ gP μ' p i k = gP μ p i k
theorem Fx.rf : Fx μ μ := fun _ _ _ _ => ⟨rfl, rfl⟩
theorem Fx.tr (h1 : Fx μ μ') (h2 : Fx μ' μ'') : Fx μ μ'' := fun p i k hp => ⟨(h2 p i k hp).1.trans (h1 p i k hp).1, (h2 p i k hp).2.trans (h1 p i k hp).2⟩
theorem Fx.fx {S : Nat → Nat → Nat → Prop} {T : Nat → Prop} (h : FX S T μ μ') (hS : ∀ p i k, 50 ≤ p → ¬ S p i k) (hT : ∀ p, 50 ≤ p → ¬ T p) : Fx μ μ' := fun p i k hp => ⟨h.I (hS p i k hp), h.P i k (hT p hp)⟩
theorem Fx.sI {p i k : Nat} {x : Int32} (h : Fx μ μ') (hp : p < 50 := by decide) : Fx μ (sI μ' p i k x) := h.tr fun p' i' k' hp' => ⟨by rw [gI_sI, if_neg (by omega)], rfl⟩
theorem Fx.sP {p i k : Nat} {x : Option (Nat × Nat)} (h : Fx μ μ') (hp : p < 50 := by decide) : Fx μ (sP μ' p i k x) := h.tr fun p' i' k' hp' => ⟨rfl, by rw [gP_sP, if_neg (by omega)]⟩
theorem Fx.nw {p n : Nat} (h : Fx μ μ') (hp : p < 50 := by decide) : Fx μ (nw μ' p n) := h.tr fun p' i' k' hp' => ⟨by rw [gI_nw, if_neg (by omega)], by rw [gP_nw, if_neg (by omega)]⟩
/-- the Model's part is kept by the Office -/
theorem TM.fx (h : TM σ Λ μ) (hF : Fx μ μ') : TM σ Λ μ' := by
  obtain ⟨h1, h2, h3, h4⟩ := h
  refine ⟨fun k hk => (hF 50 0 k (by decide)).2.trans (h1 k hk), fun c i hv => ?_, (hF 50 0 75 (by decide)).1.trans h3, h4.of rfl (fun _ => rfl) fun p k hp _ => (hF p 0 k (by omega)).1⟩
  rw [(hF _ _ _ (mp_ge c (sM_lt hv.1))).1]
  exact h2 c i hv
/-- places that the table does not use -/
def SC : Nat → Nat → Nat → Prop := fun p i k => p = 3 ∨ p = 9 ∨ p = 10 ∨ p = 20 ∨ p = 21 ∨ p = 22 ∨ p = 25 ∨ p = 35 ∨ (p = 4 ∧ i = 1) ∨ (p = 2 ∧ k ≠ 7) ∨ (27 ≤ p ∧ p ≤ 31) ∨ 38 ≤ p
theorem xl_sc {c i : Nat} (hs : sX c i) : ¬ SC (xl 0 c i).1 (xl 0 c i).2.1 (xl 0 c i).2.2 := by
  match c, hs with
  | 0, _ => show ¬ SC 34 i 0; unfold SC; omega
  | 1, _ => show ¬ SC 34 i 2; unfold SC; omega
  | 2, _ => show ¬ SC 34 i 3; unfold SC; omega
  | 3, _ => show ¬ SC 34 i 4; unfold SC; omega
  | 4, _ => show ¬ SC 34 i 5; unfold SC; omega
  | 5, _ => show ¬ SC 34 i 6; unfold SC; omega
  | 6, _ => show ¬ SC 34 i 7; unfold SC; omega
  | 7, h =>
    have h : i < 6 := h
    match i, h with
    | 0, _ => show ¬ SC 4 0 1; unfold SC; omega
    | 1, _ => show ¬ SC 4 0 2; unfold SC; omega
    | 2, _ => show ¬ SC 4 0 3; unfold SC; omega
    | 3, _ => show ¬ SC 4 0 4; unfold SC; omega
    | 4, _ => show ¬ SC 4 0 5; unfold SC; omega
    | 5, _ => show ¬ SC 1 0 26; unfold SC; omega
    | i + 6, h => omega
  | 8, _ => show ¬ SC 37 i 0; unfold SC; omega
  | 9, _ => show ¬ SC 37 i 1; unfold SC; omega
  | 10, _ => show ¬ SC 37 i 3; unfold SC; omega
  | 11, _ => show ¬ SC 37 i 2; unfold SC; omega
  | 12, _ => show ¬ SC 33 i 1; unfold SC; omega
  | 13, _ => show ¬ SC 33 i 2; unfold SC; omega
  | 14, _ => show ¬ SC 33 i 3; unfold SC; omega
  | 15, _ => show ¬ SC 33 i 4; unfold SC; omega
  | 16, _ => show ¬ SC 33 i 5; unfold SC; omega
  | 17, _ => show ¬ SC 32 i 0; unfold SC; omega
  | 18, _ => show ¬ SC 32 i 1; unfold SC; omega
  | 19, _ => show ¬ SC 32 i 2; unfold SC; omega
  | 20, _ => show ¬ SC 32 i 3; unfold SC; omega
  | 21, _ => show ¬ SC 32 i 5; unfold SC; omega
  | 22, _ => show ¬ SC 32 i 4; unfold SC; omega
  | 23, _ => show ¬ SC 34 i 1; unfold SC; omega
  | 24, _ => show ¬ SC 23 i 0; unfold SC; omega
  | 25, _ => show ¬ SC 23 i 1; unfold SC; omega
  | 26, _ => show ¬ SC 24 (i / 5) (i % 5); unfold SC; omega
  | 27, _ => show ¬ SC 14 (i / 80) (i % 80); unfold SC; omega
  | 28, _ => show ¬ SC 36 i 0; unfold SC; omega
  | 29, _ => show ¬ SC 36 i 1; unfold SC; omega
  | 30, _ => show ¬ SC 36 i 2; unfold SC; omega
  | 31, _ => show ¬ SC 36 i 3; unfold SC; omega
  | 32, _ => show ¬ SC 36 i 4; unfold SC; omega
  | 33, _ => show ¬ SC 19 0 i; unfold SC; omega
  | 34, h =>
    have h : i < 16 := h
    match i, h with
    | 0, _ => show ¬ SC 1 0 13; unfold SC; omega
    | 1, _ => show ¬ SC 1 0 14; unfold SC; omega
    | 2, _ => show ¬ SC 1 0 15; unfold SC; omega
    | 3, _ => show ¬ SC 1 0 16; unfold SC; omega
    | 4, _ => show ¬ SC 1 0 17; unfold SC; omega
    | 5, _ => show ¬ SC 1 0 18; unfold SC; omega
    | 6, _ => show ¬ SC 1 0 19; unfold SC; omega
    | 7, _ => show ¬ SC 1 0 20; unfold SC; omega
    | 8, _ => show ¬ SC 1 0 21; unfold SC; omega
    | 9, _ => show ¬ SC 1 0 22; unfold SC; omega
    | 10, _ => show ¬ SC 1 0 23; unfold SC; omega
    | 11, _ => show ¬ SC 1 0 24; unfold SC; omega
    | 12, _ => show ¬ SC 1 0 25; unfold SC; omega
    | 13, _ => show ¬ SC 1 0 27; unfold SC; omega
    | 14, _ => show ¬ SC 1 0 28; unfold SC; omega
    | 15, _ => show ¬ SC 2 0 7; unfold SC; omega
    | i + 16, h => omega
  | 35, _ => show ¬ SC 5 0 i; unfold SC; omega
  | 36, h => exact absurd rfl h.2.1
  | 37, h => exact absurd rfl h.2.2
  | 38, _ => show ¬ SC 26 i 0; unfold SC; omega
  | 39, _ => show ¬ SC 26 i 1; unfold SC; omega
  | c + 40, h =>
    unfold sX at h
    rw [if_neg (by omega), if_neg (by omega)] at h
    omega
def TCb (p : Nat) : Bool := p == 9 || p == 25 || (decide (28 ≤ p) && decide (p ≤ 31)) || decide (38 ≤ p)
def TC : Nat → Prop := fun p => TCb p = true
theorem RepX.sc (h : RepX 0 σ μ) {S : Nat → Nat → Nat → Prop} {T : Nat → Prop} (hF : FX S T μ μ') (hS : ∀ p i k, S p i k → SC p i k) : RepX 0 σ μ' := fun c i hs => by
  unfold gX
  rw [hF.I fun q => xl_sc hs (hS _ _ _ q)]
  exact h c i hs
theorem XP.sc {np na nl nb ng : Nat} (h : XP np na nl nb ng μ) (e1 : ∀ p i k, ¬ TCb p = true → gP μ' p i k = gP μ p i k) (e2 : ∀ p, ¬ TCb p = true → gC μ' p = gC μ p) : XP np na nl nb ng μ' := by
  unfold XP at h ⊢
  obtain ⟨h1, h2, h3, h4, ⟨h5, h6, h7⟩, ⟨h8, h9, h10⟩, ⟨h11, h12, h13, h14⟩, ⟨h15, h16⟩, ⟨h17, h18⟩, ⟨h19, h20, h21⟩, h22, h23, h24⟩ := h
  refine ⟨fun k hk => ?_, fun k hk => ?_, fun k hk => ?_, fun k hk => ?_, ⟨fun k hk => ?_, fun k hk => ?_, fun k hk => ?_⟩, ⟨fun k hk => ?_, ?_, ?_⟩, ⟨fun k hk => ?_, ?_, ?_, ?_⟩, ⟨fun k hk => ?_, ?_⟩, ⟨fun k hk => ?_, ?_⟩, ⟨fun k hk => ?_, ?_, ?_⟩, ?_, fun k hk => ?_, fun k hk => ?_⟩
  · rw [e1 _ _ _ (by decide)]; exact h1 k hk
  · rw [e1 _ _ _ (by decide)]; exact h2 k hk
  · rw [e1 _ _ _ (by decide)]; exact h3 k hk
  · rw [e1 _ _ _ (by decide)]; exact h4 k hk
  · rw [e1 _ _ _ (by decide)]; exact h5 k hk
  · rw [e1 _ _ _ (by decide)]; exact h6 k hk
  · rw [e1 _ _ _ (by decide)]; exact h7 k hk
  · rw [e1 _ _ _ (by decide), e1 _ _ _ (by decide)]; exact h8 k hk
  · rw [e2 _ (by decide)]; exact h9
  · rw [e2 _ (by decide)]; exact h10
  · rw [e1 _ _ _ (by decide), e1 _ _ _ (by decide), e1 _ _ _ (by decide)]; exact h11 k hk
  · rw [e2 _ (by decide)]; exact h12
  · rw [e2 _ (by decide)]; exact h13
  · rw [e2 _ (by decide)]; exact h14
  · rw [e1 _ _ _ (by decide)]; exact h15 k hk
  · rw [e2 _ (by decide)]; exact h16
  · rw [e1 _ _ _ (by decide)]; exact h17 k hk
  · rw [e2 _ (by decide)]; exact h18
  · rw [e1 _ _ _ (by decide)]; exact h19 k hk
  · rw [e2 _ (by decide)]; exact h20
  · rw [e2 _ (by decide)]; exact h21
  · rw [e2 _ (by decide)]; exact h22
  · rw [e2 _ (by decide)] at hk; rw [e1 _ _ _ (by decide)]; exact h23 k hk
  · rw [e2 _ (by decide)] at hk; rw [e1 _ _ _ (by decide)]; exact h24 k hk
theorem TX.sc (h : TX σ Λ μ) {S : Nat → Nat → Nat → Prop} {T : Nat → Prop} (hF : FX S T μ μ') (hS : ∀ p i k, S p i k → SC p i k) (hT : ∀ p, T p → TC p) (hk : KP μ μ') : TX σ Λ μ' := by
  obtain ⟨h1, h2, h3, h4⟩ := h
  exact ⟨h1.sc (fun p i k q => hF.P i k fun z => q (hT p z)) (fun p q => hF.C fun z => q (hT p z)), h2.sc hF hS, h3.kp hk rfl (fun _ => rfl) (fun l _ => hF.P l 2 fun z => absurd (hT _ z) (by show ¬ TCb 26 = true; decide)), h4.kp hk rfl (fun _ => rfl) (fun _ => rfl) (fun p _ => hF.P p 3 fun z => absurd (hT _ z) (by show ¬ TCb 23 = true; decide))⟩
/-- the Office's part is kept by the Model -/
theorem TX.fm (h : TX σ Λ μ) (hF : Fm μ μ') : TX σ Λ μ' := by
  obtain ⟨h1, h2, h3, h4⟩ := h
  have hk : KP μ μ' := fun p hp => ⟨Nat.le_of_eq (hF.C p).symm, fun i _ => ⟨hF.L p i, fun k => ⟨hF.2 p i k (by omega), hF.P p i k⟩⟩⟩
  refine ⟨h1.of hF.1, fun c i hs => ?_, h3.kp hk rfl (fun _ => rfl) (fun l _ => hF.P 26 l 2), h4.kp hk rfl (fun _ => rfl) (fun _ => rfl) (fun p _ => hF.P 23 p 3)⟩
  unfold gX
  rw [hF.2 _ _ _ fun q => xl_sc hs (by unfold SC; omega)]
  exact h2 c i hs
/-- an exception is made -/
theorem SE_SC {p i k : Nat} (h : SE p i k) : SC p i k := by unfold SE at h; unfold SC; omega
theorem TE_TC {p : Nat} (h : TE p) : TC p := by
  unfold TE at h
  show TCb p = true
  unfold TCb
  simp
  omega
theorem TX.exc (h : TX σ Λ μ) (hF : FX SE TE μ μ') : TX σ Λ μ' := h.sc hF (fun _ _ _ q => SE_SC q) (fun _ q => TE_TC q) (KP.fx hF (fun p i k hp => by unfold SE; omega) (fun p hp => by unfold TE; omega))
theorem Fx.exc (hF : FX SE TE μ μ') : Fx μ μ' := Fx.fx hF (fun p i k hp => by unfold SE; omega) (fun p hp => by unfold TE; omega)
end TX
