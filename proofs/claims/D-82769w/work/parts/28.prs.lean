/-! what the reading of conditions gives: places, numbers of steps -/
theorem skB_ge (T : Nat → Int32) (e a : Nat) : a ≤ skB T e a := skE_ge _ _ _ _
theorem wdE_ge (T : Nat → Int32) (e a : Nat) : a ≤ wdE T e a := skE_ge _ _ _ _
theorem dgE_ge (T : Nat → Int32) (e a : Nat) : a ≤ dgE T e a := skE_ge _ _ _ _
section PRS
variable {T : Nat → Int32} {e : Nat}
theorem prs_0 (f d a : Nat) : prs T e (f + 1) 0 d a =
    if skB T e a < e ∧ T (skB T e a) = 40 then
      (if d = 8 then .inl (skB T e a) else match prs T e f 2 (d + 1) (skB T e a + 1) with
        | .inl x => .inl x
        | .inr q => if skB T e q.1 < e ∧ T (skB T e q.1) = 41 then .inr (skB T e q.1 + 1, q.2) else .inl (skB T e q.1))
    else if isW T (skB T e a) (wdE T e (skB T e a)) wNot then
      (if d = 8 then .inl (skB T e a) else match prs T e f 0 (d + 1) (wdE T e (skB T e a)) with
        | .inl x => .inl x
        | .inr q => .inr (q.1, q.2 ++ [(100, 0, 0)]))
    else fctP T e (skB T e a) := rfl
theorem prs_1 (f d a : Nat) : prs T e (f + 1) 1 d a =
    (match prs T e f 0 d a with
      | .inl x => .inl x
      | .inr q => match prs T e f 3 d q.1 with
        | .inl x => .inl x
        | .inr q' => .inr (q'.1, q.2 ++ q'.2)) := rfl
theorem prs_2 (f d a : Nat) : prs T e (f + 1) 2 d a =
    (match prs T e f 1 d a with
      | .inl x => .inl x
      | .inr q => match prs T e f 4 d q.1 with
        | .inl x => .inl x
        | .inr q' => .inr (q'.1, q.2 ++ q'.2)) := rfl
theorem prs_3 (f d a : Nat) : prs T e (f + 1) 3 d a =
    if isW T (skB T e a) (wdE T e (skB T e a)) wAnd then
      (match prs T e f 0 d (wdE T e (skB T e a)) with
        | .inl x => .inl x
        | .inr q => match prs T e f 3 d q.1 with
          | .inl x => .inl x
          | .inr q' => .inr (q'.1, q.2 ++ (101, 0, 0) :: q'.2))
    else .inr (skB T e a, []) := rfl
theorem prs_4 (f d a : Nat) : prs T e (f + 1) 4 d a =
    if isW T (skB T e a) (wdE T e (skB T e a)) wOr then
      (match prs T e f 1 d (wdE T e (skB T e a)) with
        | .inl x => .inl x
        | .inr q => match prs T e f 4 d q.1 with
          | .inl x => .inl x
          | .inr q' => .inr (q'.1, q.2 ++ (102, 0, 0) :: q'.2))
    else .inr (skB T e a, []) := rfl
theorem fstW_le (b p : Nat) : ∀ l : List (List Int32), fstW T b p l ≤ l.length
  | [] => Nat.le_refl _
  | w :: t => by
    rw [fstW]
    split
    · exact Nat.zero_le _
    · rw [List.length_cons]; have := fstW_le b p t; omega
theorem fstW_is (b p : Nat) : ∀ l : List (List Int32), fstW T b p l < l.length → isW T b p (l.getD (fstW T b p l) []) = true
  | [], h => absurd h (Nat.not_lt_zero _)
  | w :: t, h => by
    rw [fstW] at h ⊢
    split
    · rename_i q; exact q
    · rename_i q
      rw [if_neg q, List.length_cons] at h
      exact fstW_is b p t (by omega)
theorem fstW_no (b p : Nat) : ∀ (l : List (List Int32)) (j : Nat), j < fstW T b p l → isW T b p (l.getD j []) = false
  | [], j, h => absurd h (Nat.not_lt_zero _)
  | w :: t, j, h => by
    rw [fstW] at h
    split at h
    · exact absurd h (Nat.not_lt_zero _)
    · rename_i q
      cases j with
      | zero => simpa using q
      | succ j => exact fstW_no b p t j (by omega)
theorem numP_ok {a p : Nat} {v : Int32} (ha : a ≤ e) (h : numP T e a = .inr (p, v)) : a < p ∧ p ≤ e ∧ 0 ≤ v := by
  unfold numP at h
  split at h
  · cases h
  · rename_i q
    cases h
    have h1 := skB_ge T e a
    have h2 := dgE_ge T e (skB T e a)
    have h3 : skB T e a ≤ e := skE_le ha
    refine ⟨by omega, skE_le h3, ?_⟩
    obtain ⟨w, hw, ew⟩ := numV_nn (T := T) (b := skB T e a) (dgE T e (skB T e a) - skB T e a) (by omega) (fun j hj => by
      have key : ∀ m a, e - a = m → ∀ j, a + j < dgE T e a → dgt (T (a + j)) = true := by
        intro m
        induction m with
        | zero => intro a hm j hj; rw [show dgE T e a = a from skE_f (fun z => by omega)] at hj; omega
        | succ m ih =>
          intro a hm j hj
          by_cases z : a < e ∧ dgt (T a) = true
          · rw [show dgE T e a = dgE T e (a + 1) from skE_t z.1 z.2] at hj
            cases j with
            | zero => exact z.2
            | succ j => rw [show a + (j + 1) = a + 1 + j by omega] at hj ⊢; exact ih (a + 1) (by omega) j hj
          · rw [show dgE T e a = a from skE_f z] at hj; omega
      exact key _ (skB T e a) rfl j (by omega))
    rw [ew]
    have : 10 ^ (dgE T e (skB T e a) - skB T e a) ≤ 10 ^ 4 := Nat.pow_le_pow_right (by decide) (by omega)
    exact nI_pos' (by omega)
theorem fct_ok {b p : Nat} {st : List Sp3} (hb : b ≤ e) (h : fctP T e b = .inr (p, st)) : b < p ∧ p ≤ e ∧ st.length ≤ p - b := by
  have h1 := wdE_ge T e b
  have h2 := skB_ge T e (wdE T e b)
  have h3 : wdE T e b ≤ e := skE_le hb
  have h4 : skB T e (wdE T e b) ≤ e := skE_le h3
  unfold fctP at h
  split at h
  · cases h
  · rename_i q
    have hlt : fstW T b (wdE T e b) wFact < 9 := by
      have := fstW_le (T := T) b (wdE T e b) wFact
      have e9 : wFact.length = 9 := rfl
      omega
    have hw := isW_len (fstW_is (T := T) b (wdE T e b) wFact hlt)
    have hl : ∀ k, k < 9 → 3 ≤ (wFact.getD k []).length := by decide +kernel
    have := hl _ hlt
    split at h
    · rename_i q2
      cases hn : numP T e (skB T e (wdE T e b) + 1) with
      | inl x => rw [hn] at h; cases h
      | inr r =>
        rw [hn] at h
        cases h
        have := numP_ok (by omega) hn
        exact ⟨by omega, this.2.1, by simp; omega⟩
    · split at h
      · rename_i q2
        cases hn : numP T e (skB T e (wdE T e b) + 1) with
        | inl x => rw [hn] at h; cases h
        | inr r =>
          rw [hn] at h
          cases h
          have := numP_ok (by omega) hn
          exact ⟨by omega, this.2.1, by simp; omega⟩
      · cases h
        exact ⟨by omega, h4, by simp; omega⟩
theorem prs_ok : ∀ (f m d a p : Nat) (st : List Sp3), m ≤ 4 → a ≤ e → prs T e f m d a = .inr (p, st) → (m ≤ 2 → a < p) ∧ a ≤ p ∧ p ≤ e ∧ st.length ≤ p - a
  | 0, m, d, a, p, st, _, _, h => by cases h
  | f + 1, m, d, a, p, st, hm, ha, h => by
    have b1 := skB_ge T e a
    have b2 : skB T e a ≤ e := skE_le ha
    have w1 := wdE_ge T e (skB T e a)
    have w2 : wdE T e (skB T e a) ≤ e := skE_le b2
    have hm' : m = 0 ∨ m = 1 ∨ m = 2 ∨ m = 3 ∨ m = 4 := by omega
    rcases hm' with rfl | rfl | rfl | rfl | rfl
    · rw [prs_0] at h
      split at h
      · rename_i q
        split at h
        · cases h
        · cases hc : prs T e f 2 (d + 1) (skB T e a + 1) with
          | inl x => rw [hc] at h; cases h
          | inr r =>
            rw [hc] at h
            have r1 := prs_ok f 2 (d + 1) _ r.1 r.2 (by omega) (by omega) hc
            have k1 := skB_ge T e r.1
            dsimp only at h
            split at h
            · rename_i q2; cases h; exact ⟨fun _ => by omega, by omega, by omega, by omega⟩
            · cases h
      · split at h
        · rename_i q q2
          have l3 : wdE T e (skB T e a) - skB T e a = 3 := isW_len q2
          split at h
          · cases h
          · cases hc : prs T e f 0 (d + 1) (wdE T e (skB T e a)) with
            | inl x => rw [hc] at h; cases h
            | inr r =>
              rw [hc] at h
              cases h
              have r1 := prs_ok f 0 (d + 1) _ r.1 r.2 (by omega) (by omega) hc
              exact ⟨fun _ => by omega, by omega, by omega, by rw [List.length_append, List.length_singleton]; omega⟩
        · have := fct_ok b2 h
          exact ⟨fun _ => by omega, by omega, by omega, by omega⟩
    · rw [prs_1] at h
      cases hc : prs T e f 0 d a with
      | inl x => rw [hc] at h; cases h
      | inr r =>
        rw [hc] at h
        have r1 := prs_ok f 0 d a r.1 r.2 (by omega) ha hc
        dsimp only at h
        cases hc2 : prs T e f 3 d r.1 with
        | inl x => rw [hc2] at h; cases h
        | inr r' =>
          rw [hc2] at h
          cases h
          have r2 := prs_ok f 3 d r.1 r'.1 r'.2 (by omega) (by omega) hc2
          have := r1.1 (by omega)
          exact ⟨fun _ => by omega, by omega, by omega, by rw [List.length_append]; omega⟩
    · rw [prs_2] at h
      cases hc : prs T e f 1 d a with
      | inl x => rw [hc] at h; cases h
      | inr r =>
        rw [hc] at h
        have r1 := prs_ok f 1 d a r.1 r.2 (by omega) ha hc
        dsimp only at h
        cases hc2 : prs T e f 4 d r.1 with
        | inl x => rw [hc2] at h; cases h
        | inr r' =>
          rw [hc2] at h
          cases h
          have r2 := prs_ok f 4 d r.1 r'.1 r'.2 (by omega) (by omega) hc2
          have := r1.1 (by omega)
          exact ⟨fun _ => by omega, by omega, by omega, by rw [List.length_append]; omega⟩
    · rw [prs_3] at h
      split at h
      · rename_i q2
        have l3 : wdE T e (skB T e a) - skB T e a = 3 := isW_len q2
        cases hc : prs T e f 0 d (wdE T e (skB T e a)) with
        | inl x => rw [hc] at h; cases h
        | inr r =>
          rw [hc] at h
          have r1 := prs_ok f 0 d _ r.1 r.2 (by omega) (by omega) hc
          dsimp only at h
          cases hc2 : prs T e f 3 d r.1 with
          | inl x => rw [hc2] at h; cases h
          | inr r' =>
            rw [hc2] at h
            cases h
            have r2 := prs_ok f 3 d r.1 r'.1 r'.2 (by omega) (by omega) hc2
            exact ⟨fun z => by omega, by omega, by omega, by rw [List.length_append, List.length_cons]; omega⟩
      · cases h
        exact ⟨fun z => by omega, by omega, by omega, by simp⟩
    · rw [prs_4] at h
      split at h
      · rename_i q2
        have l2 : wdE T e (skB T e a) - skB T e a = 2 := isW_len q2
        cases hc : prs T e f 1 d (wdE T e (skB T e a)) with
        | inl x => rw [hc] at h; cases h
        | inr r =>
          rw [hc] at h
          have r1 := prs_ok f 1 d _ r.1 r.2 (by omega) (by omega) hc
          dsimp only at h
          cases hc2 : prs T e f 4 d r.1 with
          | inl x => rw [hc2] at h; cases h
          | inr r' =>
            rw [hc2] at h
            cases h
            have r2 := prs_ok f 4 d r.1 r'.1 r'.2 (by omega) (by omega) hc2
            exact ⟨fun z => by omega, by omega, by omega, by rw [List.length_append, List.length_cons]; omega⟩
      · cases h
        exact ⟨fun z => by omega, by omega, by omega, by simp⟩
end PRS
