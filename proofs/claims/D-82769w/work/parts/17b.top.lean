/-! the Model as a whole, between two calls -/
section TOPM
abbrev Sp3 : Type := Int32 × Int32 × Int32
abbrev Cl3 : Type := Int32 × Int32 × List Sp3
abbrev Lws : Type := Nat → List Cl3
variable {μ μ' : Mem} {Q : Res → Mem → Prop} {σ σ' : Sg} {Λ : Lws}
/-- a law's clause, as the Model holds it: its sort, number, steps -/
def clM (μ : Mem) (l c : Nat) (q : Cl3) : Prop := gI μ 63 0 (16 * l + c) = q.1 ∧ (q.1 ≠ 4 → gI μ 64 0 (16 * l + c) = q.2.1) ∧
  ∃ b, gI μ 65 0 (16 * l + c) = nI b ∧ gI μ 66 0 (16 * l + c) = nI (b + q.2.2.length) ∧ b + q.2.2.length ≤ 400 ∧ ∀ j, j < q.2.2.length → gI μ 67 0 (400 * l + (b + j)) = (q.2.2.getD j (0, 0, 0)).1 ∧ gI μ 68 0 (400 * l + (b + j)) = (q.2.2.getD j (0, 0, 0)).2.1 ∧ gI μ 69 0 (400 * l + (b + j)) = (q.2.2.getD j (0, 0, 0)).2.2
def LawM (σ : Sg) (Λ : Lws) (μ : Mem) : Prop := ∀ l, l < tn (σ 34 0) → σ 39 l = nI (Λ l).length ∧ (Λ l).length ≤ 16 ∧ ∀ c, c < (Λ l).length → clM μ l c ((Λ l).getD c (0, 0, []))
theorem LawM.of (h : LawM σ Λ μ) (e0 : σ' 34 0 = σ 34 0) (e39 : ∀ l, σ' 39 l = σ 39 l) (em : ∀ p k, 63 ≤ p → p ≤ 69 → gI μ' p 0 k = gI μ p 0 k) : LawM σ' Λ μ' := by
  intro l hl
  rw [e0] at hl
  obtain ⟨h1, h2, h3⟩ := h l hl
  refine ⟨by rw [e39]; exact h1, h2, fun c hc => ?_⟩
  have h4 := h3 c hc
  unfold clM at h4 ⊢
  rw [em 63 _ (by decide) (by decide), em 64 _ (by decide) (by decide), em 65 _ (by decide) (by decide), em 66 _ (by decide) (by decide)]
  obtain ⟨a, b, bg, c1, c2, c3, c4⟩ := h4
  refine ⟨a, b, bg, c1, c2, c3, fun j hj => ?_⟩
  rw [em 67 _ (by decide) (by decide), em 68 _ (by decide) (by decide), em 69 _ (by decide) (by decide)]
  exact c4 j hj
def TM (σ : Sg) (Λ : Lws) (μ : Mem) : Prop := MOK μ ∧ RepM σ μ ∧ gI μ 50 0 75 = σ 34 13 ∧ LawM σ Λ μ
/-- only the Model's memory has changed -/
def Fm : Mem → Mem → Prop := Dif (fun p _ _ => 50 ≤ p)
theorem Fm.rf : Fm μ μ := Dif.rf
theorem Fm.tr {a b c : Mem} (h1 : Fm a b) (h2 : Fm b c) : Fm a c := Dif.tr h1 h2
theorem Fm.sI {p i k : Nat} {x : Int32} (h : Fm μ μ') (hp : 50 ≤ p := by decide) : Fm μ (sI μ' p i k x) := h.tr (Dif.sI (S := fun p _ _ => 50 ≤ p) hp)
theorem mp_ge : ∀ c, c < 40 → 50 ≤ mp c := by decide +kernel
theorem mp_nl : ∀ c, c < 40 → mp c < 63 ∨ 69 < mp c := by decide +kernel
theorem SM_ge {p i k : Nat} (h : SM p i k) : 50 ≤ p ∧ (p < 63 ∨ 69 < p) := by
  obtain ⟨-, c, j, hs, rfl, -⟩ := h
  exact ⟨mp_ge c (sM_lt hs), mp_nl c (sM_lt hs)⟩
theorem SD_ge {p i k : Nat} (h : SD p i k) : 50 ≤ p ∧ (p < 63 ∨ 69 < p) := by
  rcases h with (h | h) | h
  · exact SM_ge h
  · rcases h with h | h <;> omega
  · omega
theorem Dif.fm {S : Nat → Nat → Nat → Prop} (h : Dif S μ μ') (hS : ∀ p i k, S p i k → 50 ≤ p ∧ (p < 63 ∨ 69 < p)) : Fm μ μ' := h.mono fun p i k q => (hS p i k q).1
/-- from one table to the next one, laws untouched -/
theorem TM.go {S : Nat → Nat → Nat → Prop} (h : TM σ Λ μ) (hR : RepM σ' μ') (hD : Dif S μ μ') (hS : ∀ p i k, S p i k → 50 ≤ p ∧ (p < 63 ∨ 69 < p)) (h75 : gI μ' 50 0 75 = σ' 34 13) (e0 : σ' 34 0 = σ 34 0) (e39 : ∀ l, σ' 39 l = σ 39 l) : TM σ' Λ μ' :=
  ⟨h.1.of hD.1, hR, h75, h.2.2.2.of e0 e39 fun p k h1 h2 => hD.2 p 0 k fun q => by have := hS _ _ _ q; omega⟩
theorem TM.th {v : Int32} (h : TM σ Λ μ) : TM σ Λ (sI μ 50 0 0 v) := by
  refine h.go (S := fun p i k => p = 50 ∧ k = 0) (h.2.1.dif (S := fun p i k => p = 50 ∧ k = 0) (Dif.sI ⟨rfl, rfl⟩) ?_) (Dif.sI ⟨rfl, rfl⟩) (fun p i k q => by omega) ?_ rfl (fun _ => rfl)
  · rintro p k ⟨-, c, j, hs, rfl, rfl⟩ ⟨h1, h2⟩
    have h7 : ∀ c, c < 40 → mp c = 50 → c = 7 ∨ c = 34 := by decide +kernel
    have h8 : ∀ j, j < 6 → tS.getD j 0 ≠ 0 := by decide +kernel
    have h9 : ∀ j, j < 18 → tT.getD j 0 ≠ 0 := by decide +kernel
    rcases h7 c (sM_lt hs) h1 with rfl | rfl
    · exact h8 j (sM_7 hs) h2
    · exact h9 j (sM_34 hs) h2
  · rw [gI_sI, if_neg (by simp)]; exact h.2.2.1
theorem TM.set (h : TM σ Λ μ) (c i : Nat) (v : Int32) (hs : sM c i) (hb : ¬ (c = 7 ∧ i = 4)) (h0 : ¬ (c = 34 ∧ i = 0)) (h39 : c ≠ 39) : TM (up2 σ c i v) Λ (sI μ (mp c) 0 (ms c i) v) := by
  refine h.go (h.2.1.set c i v hs hb) (difM hs) (fun p i k q => SM_ge q) ?_ ?_ fun l => ?_
  · rw [n75 (difM hs).W, h.2.2.1, up2_eq, if_neg]
    rintro ⟨rfl, rfl⟩
    exact hs.2.2.2 rfl
  · rw [up2_eq, if_neg (fun q => h0 ⟨q.1.symm, q.2.symm⟩)]
  · rw [up2_eq, if_neg (fun q => h39 q.1.symm)]
theorem M_inT {v lo hi : Int32} (hc : lo ≤ v ∧ v ≤ hi) (h : Q (rI 1) μ) : Ct RX5 cX5_in (3, some .boolean, [], false, rmm 1 0 0) [vi v, vi lo, vi hi] μ Q := M_in (by rw [decide_eq_true hc]; exact h)
theorem M_inF {v lo hi : Int32} (hc : ¬ (lo ≤ v ∧ v ≤ hi)) (h : Q (rI 0) μ) : Ct RX5 cX5_in (3, some .boolean, [], false, rmm 1 0 0) [vi v, vi lo, vi hi] μ Q := M_in (by rw [decide_eq_false hc]; exact h)
theorem M_thrT {x : Int32} (h : Q (rI 1) (sI μ 50 0 0 x)) : Ct RX5 cX5_throwsIf (3, some .boolean, [], false, rmm 1 0 0) [vr 50 0, vi 1, vi x] μ Q := M_throwsIf (b := true) h
theorem M_thrF {x : Int32} (h : Q (rI 0) μ) : Ct RX5 cX5_throwsIf (3, some .boolean, [], false, rmm 1 0 0) [vr 50 0, vi 0, vi x] μ Q := M_throwsIf (b := false) h
theorem M_noDeskT {x : Int32} (hc : ¬ isD x) (h : Q (rI 1) μ) : Ct RX5 cX5_noDesk (1, some .boolean, [], false, rmm 2 0 0) [vi x] μ Q := M_noDesk (by rw [decide_eq_false hc]; exact h)
theorem M_noDeskF {x : Int32} (hc : isD x) (h : Q (rI 0) μ) : Ct RX5 cX5_noDesk (1, some .boolean, [], false, rmm 2 0 0) [vi x] μ Q := M_noDesk (by rw [decide_eq_true hc]; exact h)
theorem M_noFaceT {x : Int32} (hc : ¬ fc x) (h : Q (rI 1) μ) : Ct RX5 cX5_noFace (1, some .boolean, [], false, rmm 2 0 0) [vi x] μ Q := M_noFace (by rw [decide_eq_false hc]; exact h)
theorem M_noFaceF {x : Int32} (hc : fc x) (h : Q (rI 0) μ) : Ct RX5 cX5_noFace (1, some .boolean, [], false, rmm 2 0 0) [vi x] μ Q := M_noFace (by rw [decide_eq_true hc]; exact h)
theorem M_nobodyT {x : Int32} (hR : RepM σ μ) (hc : ¬ isP σ x) (h : Q (rI 1) μ) : Ct RX5 cX5_nobody (2, some .boolean, [], false, rmm 2 0 0) [vr 50 0, vi x] μ Q := M_nobody hR (by rw [decide_eq_false hc]; exact h)
theorem M_nobodyF {x : Int32} (hR : RepM σ μ) (hc : isP σ x) (h : Q (rI 0) μ) : Ct RX5 cX5_nobody (2, some .boolean, [], false, rmm 2 0 0) [vr 50 0, vi x] μ Q := M_nobody hR (by rw [decide_eq_true hc]; exact h)
theorem M_noAskingT {x : Int32} (hR : RepM σ μ) (hc : ¬ isA σ x) (h : Q (rI 1) μ) : Ct RX5 cX5_noAsking (2, some .boolean, [], false, rmm 2 0 0) [vr 50 0, vi x] μ Q := M_noAsking hR (by rw [decide_eq_false hc]; exact h)
theorem M_noAskingF {x : Int32} (hR : RepM σ μ) (hc : isA σ x) (h : Q (rI 0) μ) : Ct RX5 cX5_noAsking (2, some .boolean, [], false, rmm 2 0 0) [vr 50 0, vi x] μ Q := M_noAsking hR (by rw [decide_eq_true hc]; exact h)
theorem n10 : ¬ (1 : Int32) = 0 := by decide
/-- a number between two is a small natural one -/
theorem in_nI {x hi : Int32} {n : Nat} (h : 0 ≤ x ∧ x ≤ hi) (hn : hi.toInt = n) : ∃ j, j ≤ n ∧ x = nI j := nI_of2 hn (Int32.not_lt.mpr h.1) h.2
theorem isD_nI {x : Int32} (h : isD x) : ∃ d, d < 4 ∧ x = nI d := by
  obtain ⟨j, h1, h2⟩ := in_nI (n := 3) h rfl
  exact ⟨j, by omega, h2⟩
theorem sub1_toInt {n : Nat} (h : n < 2147483648) : (nI n - 1).toInt = (n : Int) - 1 := by
  cases n with
  | zero => rfl
  | succ n => rw [nI_pred, nI_toInt (by omega)]; omega
theorem lt_nI {x y : Int32} {n : Nat} (hy : y = nI n) (hn : n < 2147483648) (h : 0 ≤ x ∧ x ≤ y - 1) : ∃ j, j < n ∧ x = nI j := by
  subst hy
  have h2 : x.toInt ≤ (n : Int) - 1 := by rw [← sub1_toInt hn]; exact Int32.le_iff_toInt_le.mp h.2
  have h1 : (0 : Int) ≤ x.toInt := by simpa using Int32.le_iff_toInt_le.mp h.1
  obtain ⟨j, hj, e⟩ := nI_of (Int32.not_lt.mpr h.1)
  refine ⟨j, ?_, e⟩
  rw [e, nI_toInt hj] at h2
  omega
end TOPM
