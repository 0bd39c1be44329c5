/-! the Reader: a clause -/
def wWord : List (List Int32) := [wNeed, wFee, wBack, wYears, wRisk, wSee]
def srtL : List Int32 := [0, 1, 5, 2, 3, 4]
def KC (e a K : Nat) (r : Nat ⊕ (Nat × Cl3)) : Prop := match r with
  | .inl _ => e - a + 1 ≤ K
  | .inr q => q.1 - a ≤ K
def clM (μ : Mem) (j : Nat) (x y : Int32) (r : Option (Nat × Nat)) : Mem := sP (sI (sI μ 28 j 0 x) 28 j 1 y) 28 j 2 r
theorem strB_w : ∀ k, k < 6 → strB[0 + k]? = some (wWord.getD k []) := by decide +kernel
theorem strB_it : ∀ k, k < 8 → strB[6 + k]? = some (wItem.getD k []) := by decide +kernel
theorem srt_f : ∀ j, j < 6 → (0 ≤ srtL.getD j 0 ∧ srtL.getD j 0 ≤ 5) ∧ wX (srtL.getD j 0) = nI j ∧ (srtL.getD j 0 = 0 ↔ j = 0) ∧ (srtL.getD j 0 = 4 ↔ j = 5) := by decide
section R13
variable {μ μ' : Mem} {Q : Res → Mem → Prop} {T : Nat → Int32} {e a b p : Nat}
theorem isW_hd {w : List Int32} (h : isW T b p w = true) (hw : 0 < w.length) : T b = w.getD 0 0 := by
  refine Decidable.byContradiction fun q => ?_
  unfold isW at h
  rw [eqS_no (k := 0) (by rw [Nat.add_zero]; exact q) _ hw, Bool.and_false] at h
  cases h
theorem isW_ne {w w' : List Int32} (h : isW T b p w = true) (hw : 0 < w.length) (hw' : 0 < w'.length) (hn : w.getD 0 0 ≠ w'.getD 0 0) : ¬ isW T b p w' = true :=
  fun q => hn ((isW_hd h hw).symm.trans (isW_hd q hw'))
theorem srt_at {j : Nat} (hj : j < 6) (h : fstW T b p wWord = j) : srtF T b p = srtL.getD j 0 := by
  have t := fstW_is (T := T) b p wWord (by rw [h]; exact hj)
  rw [h] at t
  have z : j = 0 ∨ j = 1 ∨ j = 2 ∨ j = 3 ∨ j = 4 ∨ j = 5 := by omega
  rcases z with rfl | rfl | rfl | rfl | rfl | rfl
  · have t : isW T b p wNeed = true := t
    rw [srtF, if_pos t]; rfl
  · have t : isW T b p wFee = true := t
    rw [srtF, if_neg (isW_ne t (by decide) (by decide) (by decide)), if_pos t]; rfl
  · have t : isW T b p wBack = true := t
    rw [srtF, if_neg (isW_ne t (by decide) (by decide) (by decide)), if_neg (isW_ne t (by decide) (by decide) (by decide)), if_neg (isW_ne t (by decide) (by decide) (by decide)), if_neg (isW_ne t (by decide) (by decide) (by decide)), if_neg (isW_ne t (by decide) (by decide) (by decide)), if_pos t]; rfl
  · have t : isW T b p wYears = true := t
    rw [srtF, if_neg (isW_ne t (by decide) (by decide) (by decide)), if_neg (isW_ne t (by decide) (by decide) (by decide)), if_pos t]; rfl
  · have t : isW T b p wRisk = true := t
    rw [srtF, if_neg (isW_ne t (by decide) (by decide) (by decide)), if_neg (isW_ne t (by decide) (by decide) (by decide)), if_neg (isW_ne t (by decide) (by decide) (by decide)), if_pos t]; rfl
  · have t : isW T b p wSee = true := t
    rw [srtF, if_neg (isW_ne t (by decide) (by decide) (by decide)), if_neg (isW_ne t (by decide) (by decide) (by decide)), if_neg (isW_ne t (by decide) (by decide) (by decide)), if_neg (isW_ne t (by decide) (by decide) (by decide)), if_pos t]; rfl
theorem srt_no (h : fstW T b p wWord = 6) : srtF T b p = -1 := by
  have z : ∀ k, k < 6 → ¬ isW T b p (wWord.getD k []) = true := fun k hk => by rw [fstW_no (T := T) b p wWord k (by rw [h]; exact hk)]; decide
  rw [srtF, if_neg (z 0 (by decide)), if_neg (z 1 (by decide)), if_neg (z 3 (by decide)), if_neg (z 4 (by decide)), if_neg (z 5 (by decide)), if_neg (z 2 (by decide))]
theorem wWord_len : ∀ j, j < 6 → 3 ≤ (wWord.getD j []).length := by decide
theorem wItem_len : ∀ j, j < 8 → 4 ≤ (wItem.getD j []).length := by decide
theorem numP_rng {v : Int32} (h : numP T e a = .inr (p, v)) : 0 ≤ v ∧ v ≤ 9999 := by
  unfold numP at h
  split at h
  · cases h
  · rename_i q
    cases h
    obtain ⟨w, hw, ew⟩ := numV_nn (T := T) (b := skB T e a) (dgE T e (skB T e a) - skB T e a) (by omega) (fun j hj => by
      have key : ∀ m a, e - a = m → ∀ j, a + j < dgE T e a → dgt (T (a + j)) = true := by
        intro m
        induction m with
        | zero => intro a hm j hj; rw [show dgE T e a = a from skE_f (fun z => by omega)] at hj; omega
        | succ m ih =>
          intro a hm j hj
          by_cases z : a < e ∧ dgt (T a) = true
          · rw [show dgE T e a = dgE T e (a + 1) from skE_t z.1 z.2] at hj
            cases j with
            | zero => exact z.2
            | succ j => rw [show a + (j + 1) = a + 1 + j by omega] at hj ⊢; exact ih (a + 1) (by omega) j hj
          · rw [show dgE T e a = a from skE_f z] at hj; omega
      exact key _ (skB T e a) rfl j (by omega))
    rw [ew]
    have : 10 ^ (dgE T e (skB T e a) - skB T e a) ≤ 10 ^ 4 := Nat.pow_le_pow_right (by decide) (by omega)
    exact ⟨nI_pos' (by omega), (nI_leI (a := w) (b := 9999) (by omega) (by decide)).mpr (by omega)⟩
theorem CdX.eq (hq : ∀ q, 29 ≤ q → q ≤ 31 → gC μ' q = gC μ q ∧ ∀ i k, gI μ' q i k = gI μ q i k ∧ gP μ' q i k = gP μ q i k) : ∀ {d : Nat} {h : Nat × Nat} {f : (Nat → Int32) → Bool}, CdX μ d h f → CdX μ' d h f
  | 0, _, _, q => q
  | d + 1, h, f, q => by
    unfold CdX at q ⊢
    have a29 := hq 29 (by omega) (by omega)
    have a30 := hq 30 (by omega) (by omega)
    have a31 := hq 31 (by omega) (by omega)
    rcases q with ⟨e, l, j', hj, g, hf⟩ | ⟨e, l, h', f', g, hc, hf⟩ | ⟨e, l, h1, h2, f1, f2, g1, g2, c1, c2, hf⟩
    · exact Or.inl ⟨e, by rw [a29.1]; exact l, j', hj, by rw [(a29.2 _ _).1]; exact g, by rw [(a29.2 _ _).1, (a29.2 _ _).1]; exact hf⟩
    · exact Or.inr (Or.inl ⟨e, by rw [a30.1]; exact l, h', f', by rw [(a30.2 _ _).2]; exact g, CdX.eq hq hc, hf⟩)
    · exact Or.inr (Or.inr ⟨e, by rw [a31.1]; exact l, h1, h2, f1, f2, by rw [(a31.2 _ _).2]; exact g1, by rw [(a31.2 _ _).2]; exact g2, CdX.eq hq c1, CdX.eq hq c2, by rw [(a31.2 _ _).1]; exact hf⟩)
theorem clM_I {j q i k : Nat} {x y : Int32} {r : Option (Nat × Nat)} (h : ¬ q = 28) : gI (clM μ j x y r) q i k = gI μ q i k := by
  show gI (sI (sI μ 28 j 0 x) 28 j 1 y) q i k = _
  rw [gI_sI, if_neg (fun z => h z.1), gI_sI, if_neg (fun z => h z.1)]
theorem cl_fk {j : Nat} {x y : Int32} {r : Option (Nat × Nat)} (h : FK μ μ') (hj : gC μ 28 ≤ j) : FK μ (clM μ' j x y r) := by
  have s : ∀ i k, SKx 28 i k := fun i k => by unfold SKx; omega
  exact ⟨((h.1.wI (s _ _)).wI (s _ _)).wP (by unfold TKx; omega), kp_wP (kp_wI (kp_wI h.2 hj) hj) hj⟩
theorem cl_x {j : Nat} {x y s v : Int32} {st : List Sp3} {r : Option (Nat × Nat)} (hj : j < gC μ 28) (hs : 0 ≤ s ∧ s ≤ 5) (hx : x = wX s) (h0 : s = 0 → ∃ i, i < 8 ∧ y = nI i ∧ v = (1 : Int32) <<< (nI i &&& 31)) (hy : s ≠ 0 → s ≠ 4 → y = v ∧ 0 ≤ v ∧ v ≤ 9999)
    (hc : (st = [] ∧ r = none) ∨ ∃ hc f, r = some hc ∧ CdX μ 400 hc f ∧ ∀ φ stk, evL φ st stk = some (f φ :: stk)) : clX (clM μ j x y r) j (s, v, st) := by
  have e0 : gI (clM μ j x y r) 28 j 0 = x := by
    show gI (sI (sI μ 28 j 0 x) 28 j 1 y) 28 j 0 = _
    rw [gI_sI, if_neg (by simp), gI_sI, if_pos ⟨rfl, rfl, rfl⟩]
  have e1 : gI (clM μ j x y r) 28 j 1 = y := by
    show gI (sI (sI μ 28 j 0 x) 28 j 1 y) 28 j 1 = _
    rw [gI_sI, if_pos ⟨rfl, rfl, rfl⟩]
  have e2 : gP (clM μ j x y r) 28 j 2 = r := by unfold clM; rw [gP_sP, if_pos ⟨rfl, rfl, rfl⟩]
  refine ⟨hj, hs, e0.trans hx, fun z => ?_, fun z z' => ?_, ?_⟩
  · rw [e1]; exact h0 z
  · rw [e1]; exact hy z z'
  · rw [e2]
    rcases hc with q | ⟨hc, f, q1, q2, q3⟩
    · exact Or.inl q
    · refine Or.inr ⟨hc, f, q1, CdX.eq (fun q b1 b2 => ⟨rfl, fun i k => ⟨clM_I (by omega), ?_⟩⟩) q2, q3⟩
      unfold clM
      rw [gP_sP, if_neg (fun z => by omega)]
      rfl
set_option maxRecDepth 4000 in
theorem X_clause {K : Nat} (hr : RX T e a μ) (h10 : gI μ 2 0 10 = nI 0) (hK : KC e a K (clsP T e a))
    (h1 : ∀ q h μ', clsP T e a = .inr q → RX T e q.1 μ' → FK μ μ' → gI μ' 2 0 10 = nI 0 → clX μ' h q.2 → Q (rO (some (28, h))) μ')
    (h2 : ∀ x μ', clsP T e a = .inl x → FK μ μ' → gI μ' 3 0 6 = nI x → Q (rX 3 0) μ') : Ct RX2 cX2_clause (3, some (.object "PassportOffice$Clause"), [], false, rmm 36 K (3 * K)) [vr 2 0] μ Q := by
  refine Ct.of (ls := [some (vr 2 0), none, none]) rfl fun Γ C ad => ?_
  have b1 := skB_ge T e a
  have b2 : skB T e a ≤ e := skE_le hr.2.2.2.1
  have w1 := wdE_ge T e (skB T e a)
  have w2 : wdE T e (skB T e a) ≤ e := skE_le b2
  have e400 := hr.2.2.2.2.1
  have hX := hr.1
  have len6 : wWord.length = 6 := rfl
  refine z_aload0 dX2_clause_0 (z_aload0 dX2_clause_1 (z_getP fl_X2_29 dX2_clause_2 rfl rfl (hX.f2 1 (by decide)) (z_invV1 (md_X2_one _) cv_X2_130 rfl dX2_clause_5 rfl (Nat.le_of_ble_eq_true rfl) (Rm.gn (by decide) (by decide) (by omega) (by omega)) (X_one6 (ws := wWord) strB_w rfl hr (fun j μ1 hj ej hr1 hD1 => ?_) (fun μ1 ej hD1 hp => ?_)))))
  · have hsrt := srt_at hj ej
    have hsf := srt_f j hj
    have hlw := isW_len (fstW_is (T := T) (skB T e a) (wdE T e (skB T e a)) wWord (by rw [ej]; exact hj))
    rw [ej] at hlw
    have hl3 := wWord_len j hj
    have F1 : FK μ μ1 := FK.s29 hD1
    have d1 : gI μ1 2 0 10 = nI 0 := by rw [hD1.2 _ _ _ (by unfold S29; omega)]; exact h10
    have hX1 := hr1.1
    have tl : ∀ (q : Nat) (v y : Int32) (μ2 : Mem), cNum T e (skB T e a) = .inr (q, v) → RX T e q μ2 → FK μ μ2 → gI μ2 2 0 10 = nI 0 → a + 3 ≤ q → (j = 0 → ∃ i, i < 8 ∧ y = nI i ∧ v = (1 : Int32) <<< (nI i &&& 31)) → (j ≠ 0 → j ≠ 5 → y = v ∧ 0 ≤ v ∧ v ≤ 9999) →
        Z RX2 cX2_clause (3, some (.object "PassportOffice$Clause"), [], false, rmm 36 K (3 * K)) (Γ, C, μ, ad, Q) 0 0 μ2 37 [some (vr 2 0), some (vi (nI j)), none] [vi y] := by
      intro q v y μ2 ec hr2 F2 d2 hq hy0 hy
      have hqe := hr2.2.2.2.1
      have hX2 := hr2.1
      have h92 := hr2.2.2.1
      unfold clsP at h1 h2 hK
      rw [ec] at h1 h2 hK
      dsimp only at h1 h2 hK
      rw [hsrt] at h1 h2 hK
      have s1 := skB_ge T e q
      have s2 : skB T e q ≤ e := skE_le hqe
      have w3 := wdE_ge T e (skB T e q)
      have w4 : wdE T e (skB T e q) ≤ e := skE_le s2
      have F3 : FK μ2 (nw μ2 28 0) := fk_nw (by decide) (by decide)
      have hr3 : RX T e q (nw μ2 28 0) := hr2.fk F3 (by rw [gI_nw, if_neg (by simp)]; exact h92) hqe
      have d3 : gI (nw μ2 28 0) 2 0 10 = nI 0 := by rw [gI_nw, if_neg (by simp)]; exact d2
      have ej28 : gC (nw μ2 28 0) 28 = gC μ2 28 + 1 := by rw [gC_nw, if_pos rfl]
      cases hw : isW T (skB T e q) (wdE T e (skB T e q)) wIf with
      | false =>
        rw [hw, if_neg (by decide)] at h1 hK
        have kK : skB T e q - a ≤ K := hK
        refine z_istore2 dX2_clause_37 (z_new 28 nw_X2_73 dX2_clause_38 rfl (by decide) rfl (show 0 + 1 ≤ K by omega) (show 0 + 3 ≤ 3 * K by omega) (z_dupa dX2_clause_41 (z_iload1 dX2_clause_42 (z_iload2 dX2_clause_43 (z_aload0 dX2_clause_44 (z_ldcS 23 rfl dX2_clause_45 (z_invV1 (md_X2_takes _) cv_X2_110 rfl dX2_clause_47 rfl (Nat.le_of_ble_eq_true rfl) (Rm.gn (by decide) (by decide) (by omega) (by omega)) (X_takes strB_23 hr3 (fun μ4 hr4 hD4 => ?_)))))))))
        rw [hw, if_neg (by decide)] at hr4
        rw [hw]
        have F4 := FK.s29 hD4
        have hk28 := F4.2 28 (by omega)
        refine z_if_eq 60 dX2_clause_50 (by decide) (fun _ => z_null dX2_clause_60 (z_invI3 (md_X6_init _) ci_X2_143 dX2_clause_61 rfl (Nat.le_of_ble_eq_true rfl) (Rm.gn (by decide) (by decide) (by omega) (by omega)) (X_clInit (z_areturn dX2_clause_64 rfl (Or.inl ⟨_, rfl⟩) (show _ ≤ K by omega) (show _ ≤ 3 * K by omega) ?_)))) (fun c => absurd (rfl) c)
        have F5 : FK μ2 (clM μ4 (gC μ2 28) (nI j) y none) := cl_fk (F3.tr F4) (Nat.le_refl _)
        refine h1 _ (gC μ2 28) _ rfl (hr2.fk F5 ((clM_I (by decide)).trans hr4.2.2.1) s2) (F2.tr F5) ?_ ?_
        · rw [clM_I (by decide), hD4.2 _ _ _ (by unfold S29; omega)]; exact d3
        · exact cl_x (by have := hk28.1; omega) hsf.1 hsf.2.1.symm (fun z => hy0 (hsf.2.2.1.mp z)) (fun z z' => hy (fun k => z (hsf.2.2.1.mpr k)) (fun k => z' (hsf.2.2.2.mpr k))) (Or.inl ⟨rfl, rfl⟩)
      | true =>
        rw [hw, if_pos rfl] at h1 h2 hK
        have l2 : wdE T e (skB T e q) - skB T e q = 2 := isW_len hw
        cases hc : prs T e 2100 2 0 (wdE T e (skB T e q)) with
        | inl x =>
          rw [hc] at h2 hK
          have kK : e - a + 1 ≤ K := hK
          refine z_istore2 dX2_clause_37 (z_new 28 nw_X2_73 dX2_clause_38 rfl (by decide) rfl (show 0 + 1 ≤ K by omega) (show 0 + 3 ≤ 3 * K by omega) (z_dupa dX2_clause_41 (z_iload1 dX2_clause_42 (z_iload2 dX2_clause_43 (z_aload0 dX2_clause_44 (z_ldcS 23 rfl dX2_clause_45 (z_invV1 (md_X2_takes _) cv_X2_110 rfl dX2_clause_47 rfl (Nat.le_of_ble_eq_true rfl) (Rm.gn (by decide) (by decide) (by omega) (by omega)) (X_takes strB_23 hr3 (fun μ4 hr4 hD4 => ?_)))))))))
          rw [hw, if_pos rfl] at hr4
          rw [hw]
          have F4 := FK.s29 hD4
          have d4 : gI μ4 2 0 10 = nI 0 := by rw [hD4.2 _ _ _ (by unfold S29; omega)]; exact d3
          have hX4 := hr4.1
          refine z_if_eq 60 dX2_clause_50 (by decide) (fun c => absurd c (n10)) (fun _ => z_aload0 dX2_clause_53 (z_invV0 (md_X2_cond _) cv_X2_139 rfl dX2_clause_54 rfl (Nat.le_of_ble_eq_true rfl) (Rm.gn (by decide) (by decide) (by omega) (by omega)) (X_cond (K := e - wdE T e (skB T e q) + 1) hr4 d4 (KR.l hc (Nat.le_refl _)) (PO.l hc fun μ5 F5 hx5 => ?_))))
          exact ⟨rfl, h2 x μ5 rfl (F2.tr (F3.tr (F4.tr F5))) hx5⟩
        | inr r =>
          rw [hc] at h1 hK
          have kK : r.1 - a ≤ K := hK
          have rk := prs_ok 2100 2 0 _ r.1 r.2 (by omega) w4 hc
          have rk1 := rk.1 (by omega)
          refine z_istore2 dX2_clause_37 (z_new 28 nw_X2_73 dX2_clause_38 rfl (by decide) rfl (show 0 + 1 ≤ K by omega) (show 0 + 3 ≤ 3 * K by omega) (z_dupa dX2_clause_41 (z_iload1 dX2_clause_42 (z_iload2 dX2_clause_43 (z_aload0 dX2_clause_44 (z_ldcS 23 rfl dX2_clause_45 (z_invV1 (md_X2_takes _) cv_X2_110 rfl dX2_clause_47 rfl (Nat.le_of_ble_eq_true rfl) (Rm.gn (by decide) (by decide) (by omega) (by omega)) (X_takes strB_23 hr3 (fun μ4 hr4 hD4 => ?_)))))))))
          rw [hw, if_pos rfl] at hr4
          rw [hw]
          have F4 := FK.s29 hD4
          have d4 : gI μ4 2 0 10 = nI 0 := by rw [hD4.2 _ _ _ (by unfold S29; omega)]; exact d3
          have hX4 := hr4.1
          refine z_if_eq 60 dX2_clause_50 (by decide) (fun c => absurd c (n10)) (fun _ => z_aload0 dX2_clause_53 (z_invV0 (md_X2_cond _) cv_X2_139 rfl dX2_clause_54 rfl (Nat.le_of_ble_eq_true rfl) (Rm.gn (by decide) (by decide) (by omega) (by omega)) (X_cond (K := r.1 - wdE T e (skB T e q)) hr4 d4 (KR.r hc (Nat.le_refl _)) (PO.r hc fun μ5 h5 G F5 hr5 d5 c5 ev5 => ?_))))
          have hX5 := hr5.1
          refine z_goto 61 dX2_clause_57 (by decide) (z_invI3 (md_X6_init _) ci_X2_143 dX2_clause_61 rfl (Nat.le_of_ble_eq_true rfl) (Rm.gn (by decide) (by decide) (by omega) (by omega)) (X_clInit (z_areturn dX2_clause_64 rfl (Or.inl ⟨_, rfl⟩) (show _ ≤ K by omega) (show _ ≤ 3 * K by omega) ?_)))
          have F6 : FK μ2 (clM μ5 (gC μ2 28) (nI j) y (some h5)) := cl_fk (F3.tr (F4.tr F5)) (Nat.le_refl _)
          have hk28 := (F4.tr F5).2 28 (by omega)
          refine h1 _ (gC μ2 28) _ rfl (hr2.fk F6 ((clM_I (by decide)).trans hr5.2.2.1) rk.2.2.1) (F2.tr F6) ?_ ?_
          · rw [clM_I (by decide)]; exact d5
          · exact cl_x (by have := hk28.1; omega) hsf.1 hsf.2.1.symm (fun z => hy0 (hsf.2.2.1.mp z)) (fun z z' => hy (fun k => z (hsf.2.2.1.mpr k)) (fun k => z' (hsf.2.2.2.mpr k))) (Or.inr ⟨h5, G, rfl, CdX.mono (by omega) c5, ev5⟩)
    have nlt : ¬ srtL.getD j 0 < 0 := Int32.not_lt.mpr hsf.1.1
    unfold cNum at tl
    rw [hsrt, if_neg nlt] at tl
    by_cases j0 : j = 0
    · rw [if_pos (hsf.2.2.1.mpr j0)] at tl
      subst j0
      have i1 := skB_ge T e (wdE T e (skB T e a))
      have i2 : skB T e (wdE T e (skB T e a)) ≤ e := skE_le w2
      have i3 := wdE_ge T e (skB T e (wdE T e (skB T e a)))
      refine z_istore1 dX2_clause_8 (z_iload1 dX2_clause_9 (z_if_ne 24 dX2_clause_10 (by decide) (fun c => absurd (rfl) c) (fun _ => z_aload0 dX2_clause_13 (z_aload0 dX2_clause_14 (z_getP fl_X2_49 dX2_clause_15 rfl rfl (hX1.f2 2 (by decide)) (z_invV1 (md_X2_one _) cv_X2_130 rfl dX2_clause_18 rfl (Nat.le_of_ble_eq_true rfl) (Rm.gn (by decide) (by decide) (by omega) (by omega)) (X_one7 (ws := wItem) strB_it rfl hr1 (fun i μ2 hi ei hr2 hD2 => ?_) (fun μ2 ei hD2 hp => ?_))))))))
      · rw [ei, if_neg (by omega)] at tl
        have := tl _ _ (nI i) μ2 rfl hr2 (F1.tr (FK.s29 hD2)) (by rw [hD2.2 _ _ _ (by unfold S29; omega)]; exact d1) (by omega) (fun _ => ⟨i, hi, rfl, rfl⟩) (fun z => absurd rfl z)
        refine z_goto 37 dX2_clause_21 (by decide) ?_
        exact this
      · have ec : clsP T e a = .inl (skB T e (wdE T e (skB T e a))) := by
          unfold clsP cNum
          rw [hsrt, if_neg nlt, if_pos (hsf.2.2.1.mpr rfl), if_pos ei]
        exact ⟨rfl, h2 _ μ2 ec (F1.tr (FK.s3 hD2)) hp⟩
    · rw [if_neg (fun z => j0 (hsf.2.2.1.mp z))] at tl
      have nj0 : ¬ nI j = 0 := fun z => j0 ((nI_eq (b := 0) (by omega) (by decide)).mp z)
      by_cases j5 : j = 5
      · rw [if_pos (hsf.2.2.2.mpr j5)] at tl
        have := tl _ _ 0 μ1 rfl hr1 F1 d1 (by omega) (fun z => absurd z j0) (fun _ z => absurd j5 z)
        refine z_istore1 dX2_clause_8 (z_iload1 dX2_clause_9 (z_if_ne 24 dX2_clause_10 (by decide) (fun _ => z_iload1 dX2_clause_24 (z_iconst (v := 5) dX2_clause_25 (by decide) (z_icmp_ne 33 dX2_clause_26 (by decide) (fun c => absurd ((by rw [j5]; rfl)) c) (fun _ => z_iconst (v := 0) dX2_clause_29 (by decide) (z_goto 37 dX2_clause_30 (by decide) ?_))))) (fun c => absurd c (nj0))))
        exact this
      · rw [if_neg (fun z => j5 (hsf.2.2.2.mp z))] at tl
        have nj5 : ¬ nI j = 5 := fun z => j5 ((nI_eq (b := 5) (by omega) (by decide)).mp z)
        refine z_istore1 dX2_clause_8 (z_iload1 dX2_clause_9 (z_if_ne 24 dX2_clause_10 (by decide) (fun _ => z_iload1 dX2_clause_24 (z_iconst (v := 5) dX2_clause_25 (by decide) (z_icmp_ne 33 dX2_clause_26 (by decide) (fun _ => z_aload0 dX2_clause_33 (z_invV0 (md_X2_number _) cv_X2_134 rfl dX2_clause_34 rfl (Nat.le_of_ble_eq_true rfl) (Rm.gn (by decide) (by decide) (by omega) (by omega)) (X_number hr1 (fun q v μ2 en hr2 hD2 => ?_) (fun x μ2 en hD2 hp => ?_)))) (fun c => absurd c (nj5))))) (fun c => absurd c (nj0))))
        · have nk := numP_ok w2 en
          exact tl q v v μ2 en hr2 (F1.tr (FK.s29 hD2)) (by rw [hD2.2 _ _ _ (by unfold S29; omega)]; exact d1) (by omega) (fun z => absurd z j0) (fun _ _ => ⟨rfl, numP_rng en⟩)
        · have ec : clsP T e a = .inl x := by
            unfold clsP cNum
            rw [hsrt, if_neg nlt, if_neg (fun z => j0 (hsf.2.2.1.mp z)), if_neg (fun z => j5 (hsf.2.2.2.mp z)), en]
          exact ⟨rfl, h2 _ μ2 ec (F1.tr (FK.s3 hD2)) hp⟩
  · have ec : clsP T e a = .inl (skB T e a) := by
      unfold clsP cNum
      rw [srt_no ej, if_pos (by decide)]
    exact ⟨rfl, h2 _ μ1 ec (FK.s3 hD1) hp⟩
end R13
