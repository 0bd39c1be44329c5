/-! the Office: where things lie -/
def x1L : List (Nat × Nat) := [(2, 0), (11, 0), (12, 0), (13, 0), (15, 0), (4, 0), (4, 1), (17, 0), (18, 0), (19, 0), (20, 0), (21, 0), (22, 0)]
def x2L : List (Nat × Nat) := [(5, 0), (6, 0), (7, 0), (8, 0), (9, 0), (10, 0), (3, 0)]
/-- numbers of people, askings, loans, booklets, laws -/
def XP (np na nl nb ng : Nat) (μ : Mem) : Prop :=
  (∀ k, k < 13 → gP μ 1 0 k = some (x1L.getD k (0, 0))) ∧ (∀ k, k < 7 → gP μ 2 0 k = some (x2L.getD k (0, 0))) ∧ (∀ w, w < 2 → gP μ 4 w 0 = some (16, w)) ∧ (∀ k, k < 80 → gP μ 13 0 k = some (14, k)) ∧
  ((∀ k, k < 6 → gP μ 6 0 k = some (0, k)) ∧ (∀ k, k < 8 → gP μ 7 0 k = some (0, 6 + k)) ∧ (∀ k, k < 9 → gP μ 8 0 k = some (0, 14 + k))) ∧
  ((∀ k, k < np → gP μ 12 0 k = some (23, k) ∧ gP μ 23 k 2 = some (24, k)) ∧ gC μ 23 = np ∧ gC μ 24 = np) ∧
  ((∀ k, k < na → gP μ 15 0 k = some (33, k) ∧ gP μ 33 k 6 = some (32, k) ∧ gP μ 16 0 k = some (34, k)) ∧ gC μ 33 = na ∧ gC μ 34 = na ∧ gC μ 32 = na) ∧
  ((∀ k, k < nl → gP μ 18 0 k = some (36, k)) ∧ gC μ 36 = nl) ∧ ((∀ k, k < nb → gP μ 17 0 k = some (37, k)) ∧ gC μ 37 = nb) ∧ ((∀ k, k < ng → gP μ 11 0 k = some (26, k)) ∧ gC μ 26 = ng ∧ gC μ 27 = ng) ∧
  (gC μ 35 ≤ na ∧ (∀ k, k < gC μ 35 → gP μ 16 1 k = some (35, k)) ∧ ∀ k, gC μ 35 ≤ k → gP μ 16 1 k = none)
section X0
variable {np na nl nb ng w : Nat} {μ μ' : Mem} {σ : Sg} {Q : Res → Mem → Prop}
theorem XP.of (h : XP np na nl nb ng μ) (e : μ'.2 = μ.2) : XP np na nl nb ng μ' := by
  have e1 : ∀ p i k, gP μ' p i k = gP μ p i k := fun p i k => by unfold gP; rw [e]
  have e2 : ∀ p, gC μ' p = gC μ p := fun p => by unfold gC; rw [e]
  unfold XP at h ⊢
  simp only [e1, e2]
  exact h
theorem XP.f1 (h : XP np na nl nb ng μ) (k : Nat) (hk : k < 13) : gP μ 1 0 k = some (x1L.getD k (0, 0)) := h.1 k hk
theorem XP.f2 (h : XP np na nl nb ng μ) (k : Nat) (hk : k < 7) : gP μ 2 0 k = some (x2L.getD k (0, 0)) := h.2.1 k hk
theorem XP.f4 (h : XP np na nl nb ng μ) (w : Nat) (hw : w < 2) : gP μ 4 w 0 = some (16, w) := h.2.2.1 w hw
theorem XP.tl (h : XP np na nl nb ng μ) {k : Nat} (hk : k < 80) : gP μ 13 0 k = some (14, k) := h.2.2.2.1 k hk
theorem XP.pe (h : XP np na nl nb ng μ) {k : Nat} (hk : k < np) : gP μ 12 0 k = some (23, k) := (h.2.2.2.2.2.1.1 k hk).1
theorem XP.fa (h : XP np na nl nb ng μ) {k : Nat} (hk : k < np) : gP μ 23 k 2 = some (24, k) := (h.2.2.2.2.2.1.1 k hk).2
theorem XP.as (h : XP np na nl nb ng μ) {k : Nat} (hk : k < na) : gP μ 15 0 k = some (33, k) := (h.2.2.2.2.2.2.1.1 k hk).1
theorem XP.ru (h : XP np na nl nb ng μ) {k : Nat} (hk : k < na) : gP μ 33 k 6 = some (32, k) := (h.2.2.2.2.2.2.1.1 k hk).2.1
theorem XP.mo (h : XP np na nl nb ng μ) {k : Nat} (hk : k < na) : gP μ 16 0 k = some (34, k) := (h.2.2.2.2.2.2.1.1 k hk).2.2
theorem XP.lo (h : XP np na nl nb ng μ) {k : Nat} (hk : k < nl) : gP μ 18 0 k = some (36, k) := h.2.2.2.2.2.2.2.1.1 k hk
theorem XP.bo (h : XP np na nl nb ng μ) {k : Nat} (hk : k < nb) : gP μ 17 0 k = some (37, k) := h.2.2.2.2.2.2.2.2.1.1 k hk
theorem XP.la (h : XP np na nl nb ng μ) {k : Nat} (hk : k < ng) : gP μ 11 0 k = some (26, k) := h.2.2.2.2.2.2.2.2.2.1.1 k hk
/-- what a ruling needs of the pointers -/
def XQ (np nb ng : Nat) (μ : Mem) : Prop := (∀ k, k < 13 → gP μ 1 0 k = some (x1L.getD k (0, 0))) ∧ (∀ w, w < 2 → gP μ 4 w 0 = some (16, w)) ∧ (∀ k, k < np → gP μ 12 0 k = some (23, k)) ∧ (∀ k, k < nb → gP μ 17 0 k = some (37, k)) ∧ (∀ k, k < ng → gP μ 11 0 k = some (26, k))
theorem XQ.f1 (h : XQ np nb ng μ) (k : Nat) (hk : k < 13) : gP μ 1 0 k = some (x1L.getD k (0, 0)) := h.1 k hk
theorem XQ.f4 (h : XQ np nb ng μ) (w : Nat) (hw : w < 2) : gP μ 4 w 0 = some (16, w) := h.2.1 w hw
theorem XQ.pe (h : XQ np nb ng μ) {k : Nat} (hk : k < np) : gP μ 12 0 k = some (23, k) := h.2.2.1 k hk
theorem XQ.bo (h : XQ np nb ng μ) {k : Nat} (hk : k < nb) : gP μ 17 0 k = some (37, k) := h.2.2.2.1 k hk
theorem XQ.la (h : XQ np nb ng μ) {k : Nat} (hk : k < ng) : gP μ 11 0 k = some (26, k) := h.2.2.2.2 k hk
theorem XP.xq (h : XP np na nl nb ng μ) : XQ np nb ng μ := ⟨h.f1, h.f4, fun _ hk => h.pe hk, fun _ hk => h.bo hk, fun _ hk => h.la hk⟩
theorem XQ.of (h : XQ np nb ng μ) (e : ∀ p i k, (p = 1 ∨ p = 4 ∨ p = 12 ∨ p = 17 ∨ p = 11) → gP μ' p i k = gP μ p i k) : XQ np nb ng μ' :=
  ⟨fun k hk => by rw [e _ _ _ (by omega)]; exact h.f1 k hk, fun k hk => by rw [e _ _ _ (by omega)]; exact h.f4 k hk, fun k hk => by rw [e _ _ _ (by omega)]; exact h.pe hk, fun k hk => by rw [e _ _ _ (by omega)]; exact h.bo hk, fun k hk => by rw [e _ _ _ (by omega)]; exact h.la hk⟩
/-- the moves of a world -/
def XMv (w na : Nat) (μ : Mem) : Prop := ∀ k, k < na → gP μ 16 w k = some (34 + w, k)
theorem XMv.of (h : XMv w na μ) (e : μ'.2 = μ.2) : XMv w na μ' := fun k hk => by unfold gP; rw [e]; exact h k hk
theorem XP.mv (h : XP np na nl nb ng μ) : XMv 0 na μ := fun _ hk => h.mo hk
theorem kdW (h : w < 2) : kd (34 + w) = .inl 13 := by
  have : w = 0 ∨ w = 1 := by omega
  rcases this with rfl | rfl <;> rfl
theorem RepX.t (h : RepX w σ μ) (i : Nat) (hi : i < 15) : gI μ 1 0 (xT.getD i 0) = σ 34 i := by
  have := h 34 i (show i < 16 by omega)
  have e : xl w 34 i = (1, 0, xT.getD i 0) := by unfold xl; rw [if_neg (by decide), if_pos rfl, if_neg (by omega)]
  rw [e] at this
  exact this
theorem RepX.b5 (h : RepX w σ μ) : gI μ 1 0 26 = σ 7 5 := h 7 5 (show (5 : Nat) < 6 by decide)
theorem RepX.wd (h : RepX w σ μ) (i : Nat) (hi : i < 5) : gI μ 4 w (xS.getD i 0) = σ 7 i := by
  have := h 7 i (show i < 6 by omega)
  have e : xl w 7 i = (4, w, xS.getD i 0) := by unfold xl; rw [if_pos rfl, if_neg (by omega)]
  rw [e] at this
  exact this
theorem RepX.sz (h : RepX w σ μ) : gI μ 2 0 7 = σ 34 15 := h 34 15 (show (15 : Nat) < 16 by decide)
theorem sX_col {c i : Nat} (hc : c < 40 ∧ c ≠ 7 ∧ c ≠ 34 ∧ c ≠ 36 ∧ c ≠ 37) : sX c i := by
  unfold sX
  rw [if_neg hc.2.1, if_neg hc.2.2.1]
  exact ⟨hc.1, hc.2.2.2.1, hc.2.2.2.2⟩
theorem RepX.q (h : RepX w σ μ) (c i : Nat) (hc : c < 40 ∧ c ≠ 7 ∧ c ≠ 34 ∧ c ≠ 36 ∧ c ≠ 37 ∧ c ≠ 27) : gX μ (xl w c i) = σ c i := by
  have := h c i (sX_col ⟨hc.1, hc.2.1, hc.2.2.1, hc.2.2.2.1, hc.2.2.2.2.1⟩)
  unfold eX at this
  rw [if_neg hc.2.2.2.2.2] at this
  exact this
theorem RepX.fc (h : RepX w σ μ) (p k : Nat) (hk : k < 5) : gI μ 24 p k = σ 26 (5 * p + k) := by
  have := h.q 26 (5 * p + k) (by decide)
  have e : xl w 26 (5 * p + k) = (24, p, k) := by
    show (24, (5 * p + k) / 5, (5 * p + k) % 5) = _
    rw [show (5 * p + k) / 5 = p by omega, show (5 * p + k) % 5 = k by omega]
  rw [e] at this
  exact this
theorem RepX.td (h : RepX w σ μ) (p k : Nat) (hk : k < 80) : gI μ 14 p k = tX (σ 27 (80 * p + k)) := by
  have := h 27 (80 * p + k) (sX_col (by decide))
  have e : xl w 27 (80 * p + k) = (14, p, k) := by
    show (14, (80 * p + k) / 80, (80 * p + k) % 80) = _
    rw [show (80 * p + k) / 80 = p by omega, show (80 * p + k) % 80 = k by omega]
  rw [e] at this
  exact this
theorem X_isIn {v lo hi : Int32} (h : Q (rI (bI (decide (lo ≤ v ∧ v ≤ hi)))) μ) : Ct RX1 cX1_isIn (3, some .boolean, [], false, rmm 1 0 0) [vi v, vi lo, vi hi] μ Q := by
  refine Ct.of (ls := [some (vi v), some (vi lo), some (vi hi)]) rfl fun Γ C ad => ?_
  refine z_iload0 dX1_isIn_0 (z_iload1 dX1_isIn_1 (z_icmp_lt 14 dX1_isIn_2 (by decide) (fun c_2 => ?_) (fun c_2 => ?_)))
  · refine z_iconst (v := 0) dX1_isIn_14 (by decide) (z_zreturn dX1_isIn_15 rfl rfl (Nat.le_of_ble_eq_true rfl) (Nat.le_of_ble_eq_true rfl) ?_)
    exact hbf h (by simp; intro q; exact absurd q (Int32.not_le.mpr c_2))
  · refine z_iload0 dX1_isIn_5 (z_iload2 dX1_isIn_6 (z_icmp_gt 14 dX1_isIn_7 (by decide) (fun c_7 => ?_) (fun c_7 => ?_)))
    · refine z_iconst (v := 0) dX1_isIn_14 (by decide) (z_zreturn dX1_isIn_15 rfl rfl (Nat.le_of_ble_eq_true rfl) (Nat.le_of_ble_eq_true rfl) ?_)
      exact hbf h (by simp; intro q; exact c_7)
    · refine z_iconst (v := 1) dX1_isIn_10 (by decide) (z_goto 15 dX1_isIn_11 (by decide) (z_zreturn dX1_isIn_15 rfl rfl (Nat.le_of_ble_eq_true rfl) (Nat.le_of_ble_eq_true rfl) ?_))
      exact hbt h (by simp; exact ⟨Int32.not_lt.mp c_2, Int32.not_lt.mp c_7⟩)
theorem X_inT {v lo hi : Int32} (hc : lo ≤ v ∧ v ≤ hi) (h : Q (rI 1) μ) : Ct RX1 cX1_isIn (3, some .boolean, [], false, rmm 1 0 0) [vi v, vi lo, vi hi] μ Q := X_isIn (by rw [decide_eq_true hc]; exact h)
theorem X_inF {v lo hi : Int32} (hc : ¬ (lo ≤ v ∧ v ≤ hi)) (h : Q (rI 0) μ) : Ct RX1 cX1_isIn (3, some .boolean, [], false, rmm 1 0 0) [vi v, vi lo, vi hi] μ Q := X_isIn (by rw [decide_eq_false hc]; exact h)
abbrev rX (p i : Nat) : Res := .inr (p, i)
theorem XP.of2 (h : XP np na nl nb ng μ) (e1 : ∀ p i k, p < 50 → gP μ' p i k = gP μ p i k) (e2 : ∀ p, p < 50 → gC μ' p = gC μ p) : XP np na nl nb ng μ' := by
  unfold XP at h ⊢
  obtain ⟨h1, h2, h3, h4, ⟨h5, h6, h7⟩, ⟨h8, h9, h10⟩, ⟨h11, h12, h13, h14⟩, ⟨h15, h16⟩, ⟨h17, h18⟩, ⟨h19, h20, h21⟩, h22, h23, h24⟩ := h
  refine ⟨fun k hk => ?_, fun k hk => ?_, fun k hk => ?_, fun k hk => ?_, ⟨fun k hk => ?_, fun k hk => ?_, fun k hk => ?_⟩, ⟨fun k hk => ?_, ?_, ?_⟩, ⟨fun k hk => ?_, ?_, ?_, ?_⟩, ⟨fun k hk => ?_, ?_⟩, ⟨fun k hk => ?_, ?_⟩, ⟨fun k hk => ?_, ?_, ?_⟩, ?_, fun k hk => ?_, fun k hk => ?_⟩
  · rw [e1 _ _ _ (by decide)]; exact h1 k hk
  · rw [e1 _ _ _ (by decide)]; exact h2 k hk
  · rw [e1 _ _ _ (by decide)]; exact h3 k hk
  · rw [e1 _ _ _ (by decide)]; exact h4 k hk
  · rw [e1 _ _ _ (by decide)]; exact h5 k hk
  · rw [e1 _ _ _ (by decide)]; exact h6 k hk
  · rw [e1 _ _ _ (by decide)]; exact h7 k hk
  · rw [e1 _ _ _ (by decide), e1 _ _ _ (by decide)]; exact h8 k hk
  · rw [e2 _ (by decide)]; exact h9
  · rw [e2 _ (by decide)]; exact h10
  · rw [e1 _ _ _ (by decide), e1 _ _ _ (by decide), e1 _ _ _ (by decide)]; exact h11 k hk
  · rw [e2 _ (by decide)]; exact h12
  · rw [e2 _ (by decide)]; exact h13
  · rw [e2 _ (by decide)]; exact h14
  · rw [e1 _ _ _ (by decide)]; exact h15 k hk
  · rw [e2 _ (by decide)]; exact h16
  · rw [e1 _ _ _ (by decide)]; exact h17 k hk
  · rw [e2 _ (by decide)]; exact h18
  · rw [e1 _ _ _ (by decide)]; exact h19 k hk
  · rw [e2 _ (by decide)]; exact h20
  · rw [e2 _ (by decide)]; exact h21
  · rw [e2 _ (by decide)]; exact h22
  · rw [e2 _ (by decide)] at hk; rw [e1 _ _ _ (by decide)]; exact h23 k hk
  · rw [e2 _ (by decide)] at hk; rw [e1 _ _ _ (by decide)]; exact h24 k hk
/-- two memories differ at most where S and T say: S numbers, T pools of references and counts -/
def FX (S : Nat → Nat → Nat → Prop) (T : Nat → Prop) (μ μ' : Mem) : Prop := (∀ p i k, ¬ S p i k → gI μ' p i k = gI μ p i k) ∧ ∀ p, ¬ T p → gC μ' p = gC μ p ∧ ∀ i, gL μ' p i = gL μ p i ∧ ∀ k, gP μ' p i k = gP μ p i k
variable {S : Nat → Nat → Nat → Prop} {T : Nat → Prop}
theorem FX.rf : FX S T μ μ := ⟨fun _ _ _ _ => rfl, fun _ _ => ⟨rfl, fun _ => ⟨rfl, fun _ => rfl⟩⟩⟩
theorem FX.tr {a b c : Mem} (h1 : FX S T a b) (h2 : FX S T b c) : FX S T a c := ⟨fun p i k h => (h2.1 p i k h).trans (h1.1 p i k h), fun p h => ⟨(h2.2 p h).1.trans (h1.2 p h).1, fun i => ⟨((h2.2 p h).2 i).1.trans ((h1.2 p h).2 i).1, fun k => (((h2.2 p h).2 i).2 k).trans (((h1.2 p h).2 i).2 k)⟩⟩⟩
theorem FX.mono {S' : Nat → Nat → Nat → Prop} {T' : Nat → Prop} (h : FX S T μ μ') (h1 : ∀ p i k, S p i k → S' p i k) (h2 : ∀ p, T p → T' p) : FX S' T' μ μ' := ⟨fun p i k q => h.1 p i k fun z => q (h1 p i k z), fun p q => h.2 p fun z => q (h2 p z)⟩
theorem FX.wI {p i k : Nat} {x : Int32} (h : FX S T μ μ') (hS : S p i k) : FX S T μ (sI μ' p i k x) := h.tr ⟨fun p' i' k' q => by
  rw [gI_sI, if_neg]
  rintro ⟨rfl, rfl, rfl⟩
  exact q hS, fun _ _ => ⟨rfl, fun _ => ⟨rfl, fun _ => rfl⟩⟩⟩
theorem FX.wP {p i k : Nat} {x : Option (Nat × Nat)} (h : FX S T μ μ') (hT : T p) : FX S T μ (sP μ' p i k x) := h.tr ⟨fun _ _ _ _ => rfl, fun p' q => ⟨rfl, fun i' => ⟨rfl, fun k' => by
  rw [gP_sP, if_neg]
  rintro ⟨rfl, -⟩
  exact q hT⟩⟩⟩
theorem FX.wN {p n : Nat} (h : FX S T μ μ') (hT : T p) (hS : ∀ k, S p (gC μ' p) k) (hn : ¬ (p = 27 ∨ p = 46) → n = fl p) : FX S T μ (nw μ' p n) := h.tr ⟨fun p' i' k' q => by
  rw [gI_nw, if_neg]
  rintro ⟨rfl, rfl⟩
  exact q (hS k'), fun p' q => ⟨by rw [gC_nw, if_neg (fun (e : p' = p) => q (e ▸ hT))], fun i' => ⟨by rw [gL_nw _ _ _ _ _ hn, if_neg (fun (e : p' = p ∧ i' = gC μ' p) => q (e.1 ▸ hT))], fun k' => by rw [gP_nw, if_neg (fun (e : p' = p ∧ i' = gC μ' p) => q (e.1 ▸ hT))]⟩⟩⟩
theorem FX.I (h : FX S T μ μ') {p i k : Nat} (hS : ¬ S p i k) : gI μ' p i k = gI μ p i k := h.1 p i k hS
theorem FX.P (h : FX S T μ μ') {p : Nat} (i k : Nat) (hT : ¬ T p) : gP μ' p i k = gP μ p i k := ((h.2 p hT).2 i).2 k
theorem FX.C (h : FX S T μ μ') {p : Nat} (hT : ¬ T p) : gC μ' p = gC μ p := (h.2 p hT).1
theorem FX.L (h : FX S T μ μ') {p : Nat} (i : Nat) (hT : ¬ T p) : gL μ' p i = gL μ p i := ((h.2 p hT).2 i).1
/-- what the making of an exception changes -/
def SE : Nat → Nat → Nat → Prop := fun p _ _ => 38 ≤ p ∧ p ≤ 42
def TE : Nat → Prop := fun p => 38 ≤ p ∧ p ≤ 42
theorem FX.exc {p : Nat} (h1 : 38 ≤ p) (h2 : p ≤ 42) : FX SE TE μ (nw μ p 0) := by
  refine FX.rf.wN ⟨h1, h2⟩ (fun _ => ⟨h1, h2⟩) fun _ => ?_
  have : p = 38 ∨ p = 39 ∨ p = 40 ∨ p = 41 ∨ p = 42 := by omega
  rcases this with rfl | rfl | rfl | rfl | rfl <;> rfl
theorem X_mustT (h : Q rV μ) : Ct RX1 cX1_must (1, none, [], false, rmm 6 1 6) [vi 1] μ Q := by
  refine Ct.of (ls := [some (vi 1)]) rfl fun Γ C ad => ?_
  refine z_iload0 dX1_must_0 (z_if_ne 12 dX1_must_1 (by decide) (fun _ => z_return dX1_must_12 rfl (Nat.le_of_ble_eq_true rfl) (Nat.le_of_ble_eq_true rfl) ?_) (fun c => absurd c (n10)))
  exact h
theorem X_mayBeT (h : Q rV μ) : Ct RX1 cX1_mayBe (1, none, [], false, rmm 6 1 6) [vi 1] μ Q := by
  refine Ct.of (ls := [some (vi 1)]) rfl fun Γ C ad => ?_
  refine z_iload0 dX1_mayBe_0 (z_if_ne 12 dX1_mayBe_1 (by decide) (fun _ => z_return dX1_mayBe_12 rfl (Nat.le_of_ble_eq_true rfl) (Nat.le_of_ble_eq_true rfl) ?_) (fun c => absurd c (n10)))
  exact h
theorem X_mustBeT (h : Q rV μ) : Ct RX1 cX1_mustBe (1, none, [], false, rmm 6 1 6) [vi 1] μ Q := by
  refine Ct.of (ls := [some (vi 1)]) rfl fun Γ C ad => ?_
  refine z_iload0 dX1_mustBe_0 (z_if_ne 12 dX1_mustBe_1 (by decide) (fun _ => z_return dX1_mustBe_12 rfl (Nat.le_of_ble_eq_true rfl) (Nat.le_of_ble_eq_true rfl) ?_) (fun c => absurd c (n10)))
  exact h
theorem X_mayT (h : Q rV μ) : Ct RX1 cX1_may (1, none, [], false, rmm 6 1 6) [vi 1] μ Q := by
  refine Ct.of (ls := [some (vi 1)]) rfl fun Γ C ad => ?_
  refine z_iload0 dX1_may_0 (z_if_ne 12 dX1_may_1 (by decide) (fun _ => z_return dX1_may_12 rfl (Nat.le_of_ble_eq_true rfl) (Nat.le_of_ble_eq_true rfl) ?_) (fun c => absurd c (n10)))
  exact h
theorem X_mustF (h : ∀ μ' i, FX SE TE μ μ' → Q (rX 38 i) μ') : Ct RX1 cX1_must (1, none, [], false, rmm 6 1 6) [vi 0] μ Q := by
  refine Ct.of (ls := [some (vi 0)]) rfl fun Γ C ad => ?_
  refine z_iload0 dX1_must_0 (z_if_ne 12 dX1_must_1 (by decide) (fun c => absurd (rfl) c) (fun _ => ?_))
  refine z_exc 38 ex_X1_99_101 dX1_must_4 dX1_must_7 dX1_must_8 rfl (by decide) rfl (by decide) (by decide) (by decide) (by decide) (z_athrow dX1_must_11 rfl (by decide) (by decide) ?_)
  exact h _ _ (FX.exc (by decide) (by decide))
theorem X_mayBeF (h : ∀ μ' i, FX SE TE μ μ' → Q (rX 39 i) μ') : Ct RX1 cX1_mayBe (1, none, [], false, rmm 6 1 6) [vi 0] μ Q := by
  refine Ct.of (ls := [some (vi 0)]) rfl fun Γ C ad => ?_
  refine z_iload0 dX1_mayBe_0 (z_if_ne 12 dX1_mayBe_1 (by decide) (fun c => absurd (rfl) c) (fun _ => ?_))
  refine z_exc 39 ex_X1_102_104 dX1_mayBe_4 dX1_mayBe_7 dX1_mayBe_8 rfl (by decide) rfl (by decide) (by decide) (by decide) (by decide) (z_athrow dX1_mayBe_11 rfl (by decide) (by decide) ?_)
  exact h _ _ (FX.exc (by decide) (by decide))
theorem X_mustBeF (h : ∀ μ' i, FX SE TE μ μ' → Q (rX 40 i) μ') : Ct RX1 cX1_mustBe (1, none, [], false, rmm 6 1 6) [vi 0] μ Q := by
  refine Ct.of (ls := [some (vi 0)]) rfl fun Γ C ad => ?_
  refine z_iload0 dX1_mustBe_0 (z_if_ne 12 dX1_mustBe_1 (by decide) (fun c => absurd (rfl) c) (fun _ => ?_))
  refine z_exc 40 ex_X1_105_107 dX1_mustBe_4 dX1_mustBe_7 dX1_mustBe_8 rfl (by decide) rfl (by decide) (by decide) (by decide) (by decide) (z_athrow dX1_mustBe_11 rfl (by decide) (by decide) ?_)
  exact h _ _ (FX.exc (by decide) (by decide))
theorem X_mayF (h : ∀ μ' i, FX SE TE μ μ' → Q (rX 42 i) μ') : Ct RX1 cX1_may (1, none, [], false, rmm 6 1 6) [vi 0] μ Q := by
  refine Ct.of (ls := [some (vi 0)]) rfl fun Γ C ad => ?_
  refine z_iload0 dX1_may_0 (z_if_ne 12 dX1_may_1 (by decide) (fun c => absurd (rfl) c) (fun _ => ?_))
  refine z_exc 42 ex_X1_108_110 dX1_may_4 dX1_may_7 dX1_may_8 rfl (by decide) rfl (by decide) (by decide) (by decide) (by decide) (z_athrow dX1_may_11 rfl (by decide) (by decide) ?_)
  exact h _ _ (FX.exc (by decide) (by decide))
theorem X_personT {x : Int32} {p : Nat} (hX : XP np na nl nb ng μ) (hR : RepX w σ μ) (hc : isP σ x) (hx : x = nI p) (hp : p < np) (hp2 : np ≤ 80) (h : Q (rO (some (23, p))) μ) : Ct RX1 cX1_personAt (2, some (.object "PassportOffice$Person"), [], false, rmm 7 1 6) [vr 1 0, vi x] μ Q := by
  refine Ct.of (ls := [some (vr 1 0), some (vi x)]) rfl fun Γ C ad => ?_
  refine z_iload1 dX1_personAt_0 (z_iconst (v := 0) dX1_personAt_1 (by decide) (z_aload0 dX1_personAt_2 (z_getIv fl_X1_111 dX1_personAt_3 rfl rfl (hR.t 1 (by decide)) (z_iconst (v := 1) dX1_personAt_6 (by decide) (z_isub dX1_personAt_7 (z_invS3 (md_X1_isIn _) cs_X1_114 dX1_personAt_8 rfl (Nat.le_of_ble_eq_true rfl) (Rm.ofB rfl) (X_inT hc (z_invS1 (md_X1_mustBe _) cs_X1_118 dX1_personAt_11 rfl (Nat.le_of_ble_eq_true rfl) (Rm.ofB rfl) (X_mustBeT (z_aload0 dX1_personAt_14 (z_getP fl_X1_24 dX1_personAt_15 rfl rfl (hX.f1 2 (by decide)) (z_iload1 dX1_personAt_18 (z_aald dX1_personAt_19 rfl (by decide) rfl ⟨hx, Nat.lt_of_lt_of_le hp hp2, Nat.le_of_ble_eq_true rfl⟩ (hX.pe hp) (z_areturn dX1_personAt_20 rfl (Or.inl ⟨_, rfl⟩) (Nat.le_of_ble_eq_true rfl) (Nat.le_of_ble_eq_true rfl) ?_))))))))))))))
  exact h
theorem X_personF {x : Int32} (hR : RepX w σ μ) (hc : ¬ isP σ x) (h : ∀ μ' i, FX SE TE μ μ' → Q (rX 40 i) μ') : Ct RX1 cX1_personAt (2, some (.object "PassportOffice$Person"), [], false, rmm 7 1 6) [vr 1 0, vi x] μ Q := by
  refine Ct.of (ls := [some (vr 1 0), some (vi x)]) rfl fun Γ C ad => ?_
  refine z_iload1 dX1_personAt_0 (z_iconst (v := 0) dX1_personAt_1 (by decide) (z_aload0 dX1_personAt_2 (z_getIv fl_X1_111 dX1_personAt_3 rfl rfl (hR.t 1 (by decide)) (z_iconst (v := 1) dX1_personAt_6 (by decide) (z_isub dX1_personAt_7 (z_invS3 (md_X1_isIn _) cs_X1_114 dX1_personAt_8 rfl (Nat.le_of_ble_eq_true rfl) (Rm.ofB rfl) (X_inF hc (z_invS1 (md_X1_mustBe _) cs_X1_118 dX1_personAt_11 rfl (Nat.le_of_ble_eq_true rfl) (Rm.ofB rfl) (X_mustBeF ?_)))))))))
  exact fun μ' i q => ⟨rfl, h μ' i q⟩
theorem X_askingT {x : Int32} {a : Nat} (hX : XP np na nl nb ng μ) (hR : RepX w σ μ) (hc : isA σ x) (hx : x = nI a) (ha : a < na) (ha2 : na ≤ 120) (h : Q (rO (some (33, a))) μ) : Ct RX1 cX1_askingAt (2, some (.object "PassportOffice$Asking"), [], false, rmm 7 1 6) [vr 1 0, vi x] μ Q := by
  refine Ct.of (ls := [some (vr 1 0), some (vi x)]) rfl fun Γ C ad => ?_
  refine z_iload1 dX1_askingAt_0 (z_iconst (v := 0) dX1_askingAt_1 (by decide) (z_aload0 dX1_askingAt_2 (z_getIv fl_X1_122 dX1_askingAt_3 rfl rfl (hR.t 2 (by decide)) (z_iconst (v := 1) dX1_askingAt_6 (by decide) (z_isub dX1_askingAt_7 (z_invS3 (md_X1_isIn _) cs_X1_114 dX1_askingAt_8 rfl (Nat.le_of_ble_eq_true rfl) (Rm.ofB rfl) (X_inT hc (z_invS1 (md_X1_mustBe _) cs_X1_118 dX1_askingAt_11 rfl (Nat.le_of_ble_eq_true rfl) (Rm.ofB rfl) (X_mustBeT (z_aload0 dX1_askingAt_14 (z_getP fl_X1_35 dX1_askingAt_15 rfl rfl (hX.f1 4 (by decide)) (z_iload1 dX1_askingAt_18 (z_aald dX1_askingAt_19 rfl (by decide) rfl ⟨hx, Nat.lt_of_lt_of_le ha ha2, Nat.le_of_ble_eq_true rfl⟩ (hX.as ha) (z_areturn dX1_askingAt_20 rfl (Or.inl ⟨_, rfl⟩) (Nat.le_of_ble_eq_true rfl) (Nat.le_of_ble_eq_true rfl) ?_))))))))))))))
  exact h
theorem X_askingF {x : Int32} (hR : RepX w σ μ) (hc : ¬ isA σ x) (h : ∀ μ' i, FX SE TE μ μ' → Q (rX 40 i) μ') : Ct RX1 cX1_askingAt (2, some (.object "PassportOffice$Asking"), [], false, rmm 7 1 6) [vr 1 0, vi x] μ Q := by
  refine Ct.of (ls := [some (vr 1 0), some (vi x)]) rfl fun Γ C ad => ?_
  refine z_iload1 dX1_askingAt_0 (z_iconst (v := 0) dX1_askingAt_1 (by decide) (z_aload0 dX1_askingAt_2 (z_getIv fl_X1_122 dX1_askingAt_3 rfl rfl (hR.t 2 (by decide)) (z_iconst (v := 1) dX1_askingAt_6 (by decide) (z_isub dX1_askingAt_7 (z_invS3 (md_X1_isIn _) cs_X1_114 dX1_askingAt_8 rfl (Nat.le_of_ble_eq_true rfl) (Rm.ofB rfl) (X_inF hc (z_invS1 (md_X1_mustBe _) cs_X1_118 dX1_askingAt_11 rfl (Nat.le_of_ble_eq_true rfl) (Rm.ofB rfl) (X_mustBeF ?_)))))))))
  exact fun μ' i q => ⟨rfl, h μ' i q⟩
theorem X_deskT {x : Int32} (hc : isD x) (h : Q rV μ) : Ct RX1 cX1_isDesk (1, none, [], false, rmm 7 1 6) [vi x] μ Q := by
  refine Ct.of (ls := [some (vi x)]) rfl fun Γ C ad => ?_
  refine z_iload0 dX1_isDesk_0 (z_iconst (v := 0) dX1_isDesk_1 (by decide) (z_iconst (v := 3) dX1_isDesk_2 (by decide) (z_invS3 (md_X1_isIn _) cs_X1_114 dX1_isDesk_3 rfl (Nat.le_of_ble_eq_true rfl) (Rm.ofB rfl) (X_inT hc (z_invS1 (md_X1_mustBe _) cs_X1_118 dX1_isDesk_6 rfl (Nat.le_of_ble_eq_true rfl) (Rm.ofB rfl) (X_mustBeT (z_return dX1_isDesk_9 rfl (Nat.le_of_ble_eq_true rfl) (Nat.le_of_ble_eq_true rfl) ?_)))))))
  exact h
theorem X_deskF {x : Int32} (hc : ¬ isD x) (h : ∀ μ' i, FX SE TE μ μ' → Q (rX 40 i) μ') : Ct RX1 cX1_isDesk (1, none, [], false, rmm 7 1 6) [vi x] μ Q := by
  refine Ct.of (ls := [some (vi x)]) rfl fun Γ C ad => ?_
  refine z_iload0 dX1_isDesk_0 (z_iconst (v := 0) dX1_isDesk_1 (by decide) (z_iconst (v := 3) dX1_isDesk_2 (by decide) (z_invS3 (md_X1_isIn _) cs_X1_114 dX1_isDesk_3 rfl (Nat.le_of_ble_eq_true rfl) (Rm.ofB rfl) (X_inF hc (z_invS1 (md_X1_mustBe _) cs_X1_118 dX1_isDesk_6 rfl (Nat.le_of_ble_eq_true rfl) (Rm.ofB rfl) (X_mustBeF ?_))))))
  exact fun μ' i q => ⟨rfl, h μ' i q⟩
end X0
