/-! the Reader: conditions -/
section R12
variable {T : Nat → Int32} {e : Nat}
set_option maxRecDepth 4000 in
theorem QcB_step {g : Nat} (ih : ∀ g', g' ≤ g → QcA T e g') : QcB T e (g + 1) := by
  intro d a D K μ Q hd hD hf hr h10 hK h
  refine Ct.of (ls := [some (vr 2 0), none]) rfl fun Γ C ad => ?_
  have e400 := hr.2.2.2.2.1
  have ae := hr.2.2.2.1
  have loop : ∀ g', g' ≤ g → ∀ (p k n : Nat) (st : List Sp3) (h0 : Nat × Nat) (F0 : (Nat → Int32) → Bool) (μ2 : Mem), RX T e p μ2 → FK μ μ2 → gI μ2 2 0 10 = nI d → CdX μ2 (p - a) h0 F0 → (∀ φ stk, evL φ st stk = some (F0 φ :: stk)) → a < p → k ≤ p - a → n ≤ 3 * (p - a) → 5 * (e - p) + 1 ≤ g' →
      KR e a K (match prs T e g' 3 d p with | .inl x => .inl x | .inr q' => .inr (q'.1, st ++ q'.2)) →
      PO T e μ a d Q (match prs T e g' 3 d p with | .inl x => .inl x | .inr q' => .inr (q'.1, st ++ q'.2)) →
      Z RX2 cX2_all (2, some (.object "PassportOffice$Cond"), [], false, rmm D K (3 * K)) (Γ, C, μ, ad, Q) k n μ2 5 [some (vr 2 0), some (vo (some h0))] [] := by
    intro g'
    induction g' with
    | zero => intro _ p k n st h0 F0 μ2 _ _ _ _ _ _ _ _ hm; omega
    | succ g2 ihg =>
      intro hg p k n st h0 F0 μ2 hr2 F2 d2 c2 ev2 hap hk hn hm hK2 hP
      have b1 := skB_ge T e p
      have hpe := hr2.2.2.2.1
      have b2 : skB T e p ≤ e := skE_le hpe
      have w1 := wdE_ge T e (skB T e p)
      have w2 : wdE T e (skB T e p) ≤ e := skE_le b2
      have hX := hr2.1
      have kK : p - a ≤ K := by
        cases hc : prs T e (g2 + 1) 3 d p with
        | inl x => rw [hc] at hK2; have : e - a + 1 ≤ K := hK2; omega
        | inr q' =>
          rw [hc] at hK2
          have : q'.1 - a ≤ K := hK2
          have := prs_ok (g2 + 1) 3 d p q'.1 q'.2 (by omega) hpe hc
          omega
      rw [prs_3] at hP hK2
      refine z_aload0 dX2_all_5 (z_ldcS 25 rfl dX2_all_6 (z_invV1 (md_X2_takes _) cv_X2_110 rfl dX2_all_8 rfl (Nat.le_of_ble_eq_true rfl) (Rm.gn (by omega) (by decide) (by omega) (by omega)) (X_takes strB_25 hr2 (fun μ3 hr3 hD3 => ?_))))
      have F03 : FK μ μ3 := F2.tr (FK.s29 hD3)
      have d3 : gI μ3 2 0 10 = nI d := by rw [hD3.2 _ _ _ (by unfold S29; omega)]; exact d2
      have c3 := c2.kp (FK.s29 hD3).2
      cases hw : isW T (skB T e p) (wdE T e (skB T e p)) wAnd with
      | false =>
        rw [hw, if_neg (by decide)] at hP hr3
        dsimp only at hP
        rw [List.append_nil] at hP
        refine z_if_eq 31 dX2_all_11 (by decide) (fun _ => z_aload1 dX2_all_31 (z_areturn dX2_all_32 rfl (Or.inl ⟨_, rfl⟩) (show _ ≤ K by omega) (show _ ≤ 3 * K by omega) ?_)) (fun c => absurd (rfl) c)
        exact hP μ3 h0 F0 F03 hr3 d3 (CdX.mono (by show _ ≤ skB T e p - a; omega) c3) ev2
      | true =>
        rw [hw, if_pos rfl] at hP hr3 hK2
        have l3 : wdE T e (skB T e p) - skB T e p = (wAnd).length := isW_len hw
        have l3' : (wAnd).length = 3 := rfl
        have h93 := hr3.2.2.1
        have hX3 := hr3.1
        have F4 : FK μ3 (nw μ3 31 0) := fk_nw (by decide) (by decide)
        have hr4 : RX T e (wdE T e (skB T e p)) (nw μ3 31 0) := hr3.fk F4 (by rw [gI_nw, if_neg (by simp)]; exact h93) w2
        have d4 : gI (nw μ3 31 0) 2 0 10 = nI d := by rw [gI_nw, if_neg (by simp)]; exact d3
        cases hc : prs T e g2 0 d (wdE T e (skB T e p)) with
        | inl x =>
          rw [hc] at hP hK2
          have hK' : e - a + 1 ≤ K := hK2
          refine z_if_eq 31 dX2_all_11 (by decide) (fun c => absurd c (n10)) (fun _ => z_new 31 nw_X2_151 dX2_all_14 rfl (by decide) rfl (show k + 1 ≤ K by omega) (show n + 3 ≤ 3 * K by omega) (z_dupa dX2_all_17 (z_aload1 dX2_all_18 (z_aload0 dX2_all_19 (z_invV0 (md_X2_atom _) cv_X2_156 rfl dX2_all_20 rfl (Nat.le_of_ble_eq_true rfl) (Rm.gn (by omega) (by decide) (by omega) (by omega)) (ih g2 (by omega) d (wdE T e (skB T e p)) (D - 1) (e - wdE T e (skB T e p) + 1) _ _ hd (by omega) (by omega) hr4 d4 (KR.l hc (Nat.le_refl _)) (PO.l hc fun μ5 F5 hx5 => ?_)))))))
          exact ⟨rfl, hP μ5 (F03.tr (F4.tr F5)) hx5⟩
        | inr r =>
          rw [hc] at hP hK2
          dsimp only at hP hK2
          have rk := prs_ok g2 0 d _ r.1 r.2 (by omega) w2 hc
          have rk1 := rk.1 (by omega)
          have hK' : r.1 - a ≤ K := by
            cases hc2 : prs T e g2 3 d r.1 with
            | inl x => rw [hc2] at hK2; have : e - a + 1 ≤ K := hK2; omega
            | inr q' =>
              rw [hc2] at hK2
              have : q'.1 - a ≤ K := hK2
              have := prs_ok g2 3 d r.1 q'.1 q'.2 (by omega) (by omega) hc2
              omega
          refine z_if_eq 31 dX2_all_11 (by decide) (fun c => absurd c (n10)) (fun _ => z_new 31 nw_X2_151 dX2_all_14 rfl (by decide) rfl (show k + 1 ≤ K by omega) (show n + 3 ≤ 3 * K by omega) (z_dupa dX2_all_17 (z_aload1 dX2_all_18 (z_aload0 dX2_all_19 (z_invV0 (md_X2_atom _) cv_X2_156 rfl dX2_all_20 rfl (Nat.le_of_ble_eq_true rfl) (Rm.gn (by omega) (by decide) (by omega) (by omega)) (ih g2 (by omega) d (wdE T e (skB T e p)) (D - 1) (r.1 - wdE T e (skB T e p)) _ _ hd (by omega) (by omega) hr4 d4 (KR.r hc (Nat.le_refl _)) (PO.r hc fun μ5 h5 G F5 hr5 d5 c5 ev5 => ?_)))))))
          have hX5 := hr5.1
          refine z_iconst (v := 1) dX2_all_23 (by decide) (z_invI3 (md_X10_init _) ci_X2_153 dX2_all_24 rfl (Nat.le_of_ble_eq_true rfl) (Rm.gn (by omega) (by decide) (by omega) (by omega)) (X_prInit (b := true) (z_astore1 dX2_all_27 (z_goto 5 dX2_all_28 (by decide) ?_))))
          have ej : gC (nw μ3 31 0) 31 = gC μ3 31 + 1 := by rw [gC_nw, if_pos rfl]
          have hk31 := F5.2 31 (by omega)
          have hj : gC μ3 31 < gC μ5 31 := by have := hk31.1; omega
          have hn0 : gP μ5 31 (gC μ3 31) 0 = none := by
            rw [((hk31.2 (gC μ3 31) (by omega)).2 0).2, gP_nw, if_pos ⟨rfl, rfl⟩]
          have s31 : ∀ k, SKx 31 (gC μ3 31) k := fun k => by unfold SKx; omega
          have t31 : TKx 31 := by unfold TKx; omega
          have F6 : FK μ3 (prM μ5 (gC μ3 31) h0 h5 true) := ⟨(((F4.tr F5).1.wP t31).wP t31).wI (s31 2), kp_wI (kp_wP (kp_wP (F4.tr F5).2 (Nat.le_refl _)) (Nat.le_refl _)) (Nat.le_refl _)⟩
          have i6 : ∀ k, gI (prM μ5 (gC μ3 31) h0 h5 true) 2 0 k = gI μ5 2 0 k := fun k => by
            unfold prM
            rw [gI_sI, if_neg (by simp)]
            rfl
          refine ihg (by omega) r.1 _ _ (st ++ (r.2 ++ [(101, 0, 0)])) (31, gC μ3 31) _ (prM μ5 (gC μ3 31) h0 h5 true) (hr3.fk F6 (by rw [i6]; exact hr5.2.2.1) (by omega)) (F03.tr F6) (by rw [i6]; exact d5) (CdX.mono (d := (r.1 - (a + 1)) + 1) (by omega) (pr_cd hj hn0 (CdX.mono (by omega) (c3.kp (F4.tr F5).2)) (CdX.mono (by omega) c5))) (ev_pair (Or.inl ⟨rfl, rfl⟩) ev2 ev5) (by omega) (by omega) (by omega) (by omega) ?_ ?_
          · cases hc2 : prs T e g2 3 d r.1 with
            | inl x => rw [hc2] at hK2; exact hK2
            | inr q' => rw [hc2] at hK2; exact hK2
          · cases hc2 : prs T e g2 3 d r.1 with
            | inl x => rw [hc2] at hP; exact hP
            | inr q' =>
              rw [hc2] at hP
              have ea : st ++ (r.2 ++ (101, 0, 0) :: q'.2) = st ++ (r.2 ++ [(101, 0, 0)]) ++ q'.2 := by simp
              dsimp only at hP ⊢
              rw [ea] at hP
              exact hP
  rw [prs_1] at h hK
  have hX := hr.1
  cases hc : prs T e g 0 d a with
  | inl x =>
    rw [hc] at h hK
    have hK' : e - a + 1 ≤ K := hK
    refine z_aload0 dX2_all_0 (z_invV0 (md_X2_atom _) cv_X2_156 rfl dX2_all_1 rfl (Nat.le_of_ble_eq_true rfl) (Rm.gn (by omega) (by decide) (by omega) (by omega)) (ih g (Nat.le_refl _) d a (D - 1) (e - a + 1) _ _ hd (by omega) (by omega) hr h10 (KR.l hc (Nat.le_refl _)) (PO.l hc fun μ4 F4 hx4 => ?_)))
    exact ⟨rfl, h μ4 F4 hx4⟩
  | inr r =>
    rw [hc] at h hK
    have rk := prs_ok g 0 d _ r.1 r.2 (by omega) ae hc
    have rk1 := rk.1 (by omega)
    dsimp only at h hK
    have hK' : r.1 - a ≤ K := by
      cases hc2 : prs T e g 3 d r.1 with
      | inl x => rw [hc2] at hK; have : e - a + 1 ≤ K := hK; omega
      | inr q' =>
        rw [hc2] at hK
        have : q'.1 - a ≤ K := hK
        have := prs_ok g 3 d r.1 q'.1 q'.2 (by omega) (by omega) hc2
        omega
    refine z_aload0 dX2_all_0 (z_invV0 (md_X2_atom _) cv_X2_156 rfl dX2_all_1 rfl (Nat.le_of_ble_eq_true rfl) (Rm.gn (by omega) (by decide) (by omega) (by omega)) (ih g (Nat.le_refl _) d a (D - 1) (r.1 - a) _ _ hd (by omega) (by omega) hr h10 (KR.r hc (Nat.le_refl _)) (PO.r hc fun μ4 h4 G F4 hr4 d4 c4 ev4 => ?_)))
    refine z_astore1 dX2_all_4 ?_
    exact loop g (Nat.le_refl _) r.1 _ _ r.2 h4 G μ4 hr4 F4 d4 c4 ev4 (by omega) (by omega) (by omega) (by omega) hK h
set_option maxRecDepth 4000 in
theorem QcC_step {g : Nat} (ih : ∀ g', g' ≤ g → QcB T e g') : QcC T e (g + 1) := by
  intro d a D K μ Q hd hD hf hr h10 hK h
  refine Ct.of (ls := [some (vr 2 0), none]) rfl fun Γ C ad => ?_
  have e400 := hr.2.2.2.2.1
  have ae := hr.2.2.2.1
  have loop : ∀ g', g' ≤ g → ∀ (p k n : Nat) (st : List Sp3) (h0 : Nat × Nat) (F0 : (Nat → Int32) → Bool) (μ2 : Mem), RX T e p μ2 → FK μ μ2 → gI μ2 2 0 10 = nI d → CdX μ2 (p - a) h0 F0 → (∀ φ stk, evL φ st stk = some (F0 φ :: stk)) → a < p → k ≤ p - a → n ≤ 3 * (p - a) → 5 * (e - p) + 1 ≤ g' →
      KR e a K (match prs T e g' 4 d p with | .inl x => .inl x | .inr q' => .inr (q'.1, st ++ q'.2)) →
      PO T e μ a d Q (match prs T e g' 4 d p with | .inl x => .inl x | .inr q' => .inr (q'.1, st ++ q'.2)) →
      Z RX2 cX2_cond (2, some (.object "PassportOffice$Cond"), [], false, rmm D K (3 * K)) (Γ, C, μ, ad, Q) k n μ2 5 [some (vr 2 0), some (vo (some h0))] [] := by
    intro g'
    induction g' with
    | zero => intro _ p k n st h0 F0 μ2 _ _ _ _ _ _ _ _ hm; omega
    | succ g2 ihg =>
      intro hg p k n st h0 F0 μ2 hr2 F2 d2 c2 ev2 hap hk hn hm hK2 hP
      have b1 := skB_ge T e p
      have hpe := hr2.2.2.2.1
      have b2 : skB T e p ≤ e := skE_le hpe
      have w1 := wdE_ge T e (skB T e p)
      have w2 : wdE T e (skB T e p) ≤ e := skE_le b2
      have hX := hr2.1
      have kK : p - a ≤ K := by
        cases hc : prs T e (g2 + 1) 4 d p with
        | inl x => rw [hc] at hK2; have : e - a + 1 ≤ K := hK2; omega
        | inr q' =>
          rw [hc] at hK2
          have : q'.1 - a ≤ K := hK2
          have := prs_ok (g2 + 1) 4 d p q'.1 q'.2 (by omega) hpe hc
          omega
      rw [prs_4] at hP hK2
      refine z_aload0 dX2_cond_5 (z_ldcS 24 rfl dX2_cond_6 (z_invV1 (md_X2_takes _) cv_X2_110 rfl dX2_cond_8 rfl (Nat.le_of_ble_eq_true rfl) (Rm.gn (by omega) (by decide) (by omega) (by omega)) (X_takes strB_24 hr2 (fun μ3 hr3 hD3 => ?_))))
      have F03 : FK μ μ3 := F2.tr (FK.s29 hD3)
      have d3 : gI μ3 2 0 10 = nI d := by rw [hD3.2 _ _ _ (by unfold S29; omega)]; exact d2
      have c3 := c2.kp (FK.s29 hD3).2
      cases hw : isW T (skB T e p) (wdE T e (skB T e p)) wOr with
      | false =>
        rw [hw, if_neg (by decide)] at hP hr3
        dsimp only at hP
        rw [List.append_nil] at hP
        refine z_if_eq 31 dX2_cond_11 (by decide) (fun _ => z_aload1 dX2_cond_31 (z_areturn dX2_cond_32 rfl (Or.inl ⟨_, rfl⟩) (show _ ≤ K by omega) (show _ ≤ 3 * K by omega) ?_)) (fun c => absurd (rfl) c)
        exact hP μ3 h0 F0 F03 hr3 d3 (CdX.mono (by show _ ≤ skB T e p - a; omega) c3) ev2
      | true =>
        rw [hw, if_pos rfl] at hP hr3 hK2
        have l3 : wdE T e (skB T e p) - skB T e p = (wOr).length := isW_len hw
        have l3' : (wOr).length = 2 := rfl
        have h93 := hr3.2.2.1
        have hX3 := hr3.1
        have F4 : FK μ3 (nw μ3 31 0) := fk_nw (by decide) (by decide)
        have hr4 : RX T e (wdE T e (skB T e p)) (nw μ3 31 0) := hr3.fk F4 (by rw [gI_nw, if_neg (by simp)]; exact h93) w2
        have d4 : gI (nw μ3 31 0) 2 0 10 = nI d := by rw [gI_nw, if_neg (by simp)]; exact d3
        cases hc : prs T e g2 1 d (wdE T e (skB T e p)) with
        | inl x =>
          rw [hc] at hP hK2
          have hK' : e - a + 1 ≤ K := hK2
          refine z_if_eq 31 dX2_cond_11 (by decide) (fun c => absurd c (n10)) (fun _ => z_new 31 nw_X2_151 dX2_cond_14 rfl (by decide) rfl (show k + 1 ≤ K by omega) (show n + 3 ≤ 3 * K by omega) (z_dupa dX2_cond_17 (z_aload1 dX2_cond_18 (z_aload0 dX2_cond_19 (z_invV0 (md_X2_all _) cv_X2_146 rfl dX2_cond_20 rfl (Nat.le_of_ble_eq_true rfl) (Rm.gn (by omega) (by decide) (by omega) (by omega)) (ih g2 (by omega) d (wdE T e (skB T e p)) (D - 1) (e - wdE T e (skB T e p) + 1) _ _ hd (by omega) (by omega) hr4 d4 (KR.l hc (Nat.le_refl _)) (PO.l hc fun μ5 F5 hx5 => ?_)))))))
          exact ⟨rfl, hP μ5 (F03.tr (F4.tr F5)) hx5⟩
        | inr r =>
          rw [hc] at hP hK2
          dsimp only at hP hK2
          have rk := prs_ok g2 1 d _ r.1 r.2 (by omega) w2 hc
          have rk1 := rk.1 (by omega)
          have hK' : r.1 - a ≤ K := by
            cases hc2 : prs T e g2 4 d r.1 with
            | inl x => rw [hc2] at hK2; have : e - a + 1 ≤ K := hK2; omega
            | inr q' =>
              rw [hc2] at hK2
              have : q'.1 - a ≤ K := hK2
              have := prs_ok g2 4 d r.1 q'.1 q'.2 (by omega) (by omega) hc2
              omega
          refine z_if_eq 31 dX2_cond_11 (by decide) (fun c => absurd c (n10)) (fun _ => z_new 31 nw_X2_151 dX2_cond_14 rfl (by decide) rfl (show k + 1 ≤ K by omega) (show n + 3 ≤ 3 * K by omega) (z_dupa dX2_cond_17 (z_aload1 dX2_cond_18 (z_aload0 dX2_cond_19 (z_invV0 (md_X2_all _) cv_X2_146 rfl dX2_cond_20 rfl (Nat.le_of_ble_eq_true rfl) (Rm.gn (by omega) (by decide) (by omega) (by omega)) (ih g2 (by omega) d (wdE T e (skB T e p)) (D - 1) (r.1 - wdE T e (skB T e p)) _ _ hd (by omega) (by omega) hr4 d4 (KR.r hc (Nat.le_refl _)) (PO.r hc fun μ5 h5 G F5 hr5 d5 c5 ev5 => ?_)))))))
          have hX5 := hr5.1
          refine z_iconst (v := 0) dX2_cond_23 (by decide) (z_invI3 (md_X10_init _) ci_X2_153 dX2_cond_24 rfl (Nat.le_of_ble_eq_true rfl) (Rm.gn (by omega) (by decide) (by omega) (by omega)) (X_prInit (b := false) (z_astore1 dX2_cond_27 (z_goto 5 dX2_cond_28 (by decide) ?_))))
          have ej : gC (nw μ3 31 0) 31 = gC μ3 31 + 1 := by rw [gC_nw, if_pos rfl]
          have hk31 := F5.2 31 (by omega)
          have hj : gC μ3 31 < gC μ5 31 := by have := hk31.1; omega
          have hn0 : gP μ5 31 (gC μ3 31) 0 = none := by
            rw [((hk31.2 (gC μ3 31) (by omega)).2 0).2, gP_nw, if_pos ⟨rfl, rfl⟩]
          have s31 : ∀ k, SKx 31 (gC μ3 31) k := fun k => by unfold SKx; omega
          have t31 : TKx 31 := by unfold TKx; omega
          have F6 : FK μ3 (prM μ5 (gC μ3 31) h0 h5 false) := ⟨(((F4.tr F5).1.wP t31).wP t31).wI (s31 2), kp_wI (kp_wP (kp_wP (F4.tr F5).2 (Nat.le_refl _)) (Nat.le_refl _)) (Nat.le_refl _)⟩
          have i6 : ∀ k, gI (prM μ5 (gC μ3 31) h0 h5 false) 2 0 k = gI μ5 2 0 k := fun k => by
            unfold prM
            rw [gI_sI, if_neg (by simp)]
            rfl
          refine ihg (by omega) r.1 _ _ (st ++ (r.2 ++ [(102, 0, 0)])) (31, gC μ3 31) _ (prM μ5 (gC μ3 31) h0 h5 false) (hr3.fk F6 (by rw [i6]; exact hr5.2.2.1) (by omega)) (F03.tr F6) (by rw [i6]; exact d5) (CdX.mono (d := (r.1 - (a + 1)) + 1) (by omega) (pr_cd hj hn0 (CdX.mono (by omega) (c3.kp (F4.tr F5).2)) (CdX.mono (by omega) c5))) (ev_pair (Or.inr ⟨rfl, rfl⟩) ev2 ev5) (by omega) (by omega) (by omega) (by omega) ?_ ?_
          · cases hc2 : prs T e g2 4 d r.1 with
            | inl x => rw [hc2] at hK2; exact hK2
            | inr q' => rw [hc2] at hK2; exact hK2
          · cases hc2 : prs T e g2 4 d r.1 with
            | inl x => rw [hc2] at hP; exact hP
            | inr q' =>
              rw [hc2] at hP
              have ea : st ++ (r.2 ++ (102, 0, 0) :: q'.2) = st ++ (r.2 ++ [(102, 0, 0)]) ++ q'.2 := by simp
              dsimp only at hP ⊢
              rw [ea] at hP
              exact hP
  rw [prs_2] at h hK
  have hX := hr.1
  cases hc : prs T e g 1 d a with
  | inl x =>
    rw [hc] at h hK
    have hK' : e - a + 1 ≤ K := hK
    refine z_aload0 dX2_cond_0 (z_invV0 (md_X2_all _) cv_X2_146 rfl dX2_cond_1 rfl (Nat.le_of_ble_eq_true rfl) (Rm.gn (by omega) (by decide) (by omega) (by omega)) (ih g (Nat.le_refl _) d a (D - 1) (e - a + 1) _ _ hd (by omega) (by omega) hr h10 (KR.l hc (Nat.le_refl _)) (PO.l hc fun μ4 F4 hx4 => ?_)))
    exact ⟨rfl, h μ4 F4 hx4⟩
  | inr r =>
    rw [hc] at h hK
    have rk := prs_ok g 1 d _ r.1 r.2 (by omega) ae hc
    have rk1 := rk.1 (by omega)
    dsimp only at h hK
    have hK' : r.1 - a ≤ K := by
      cases hc2 : prs T e g 4 d r.1 with
      | inl x => rw [hc2] at hK; have : e - a + 1 ≤ K := hK; omega
      | inr q' =>
        rw [hc2] at hK
        have : q'.1 - a ≤ K := hK
        have := prs_ok g 4 d r.1 q'.1 q'.2 (by omega) (by omega) hc2
        omega
    refine z_aload0 dX2_cond_0 (z_invV0 (md_X2_all _) cv_X2_146 rfl dX2_cond_1 rfl (Nat.le_of_ble_eq_true rfl) (Rm.gn (by omega) (by decide) (by omega) (by omega)) (ih g (Nat.le_refl _) d a (D - 1) (r.1 - a) _ _ hd (by omega) (by omega) hr h10 (KR.r hc (Nat.le_refl _)) (PO.r hc fun μ4 h4 G F4 hr4 d4 c4 ev4 => ?_)))
    refine z_astore1 dX2_cond_4 ?_
    exact loop g (Nat.le_refl _) r.1 _ _ r.2 h4 G μ4 hr4 F4 d4 c4 ev4 (by omega) (by omega) (by omega) (by omega) hK h
theorem R_parse : ∀ f, (∀ g, g ≤ f → QcA T e g) ∧ (∀ g, g ≤ f → QcB T e g) ∧ (∀ g, g ≤ f → QcC T e g)
  | 0 => by
    refine ⟨fun g hg => ?_, fun g hg => ?_, fun g hg => ?_⟩
    · intro d a D K μ Q _ _ hm; omega
    · intro d a D K μ Q _ _ hm; omega
    · intro d a D K μ Q _ _ hm; omega
  | f + 1 => by
    obtain ⟨h1, h2, h3⟩ := R_parse f
    have a1 : ∀ g, g ≤ f + 1 → QcA T e g := fun g hg => by
      rcases Nat.lt_or_ge g (f + 1) with q | q
      · exact h1 g (by omega)
      · rw [show g = f + 1 by omega]; exact QcA_step (h1 f (Nat.le_refl _)) (h3 f (Nat.le_refl _))
    have a2 : ∀ g, g ≤ f + 1 → QcB T e g := fun g hg => by
      rcases Nat.lt_or_ge g (f + 1) with q | q
      · exact h2 g (by omega)
      · rw [show g = f + 1 by omega]; exact QcB_step h1
    refine ⟨a1, a2, fun g hg => ?_⟩
    rcases Nat.lt_or_ge g (f + 1) with q | q
    · exact h3 g (by omega)
    · rw [show g = f + 1 by omega]; exact QcC_step h2
theorem X_cond {a K : Nat} {μ : Mem} {Q : Res → Mem → Prop} (hr : RX T e a μ) (h10 : gI μ 2 0 10 = nI 0) (hK : KR e a K (prs T e 2100 2 0 a)) (h : PO T e μ a 0 Q (prs T e 2100 2 0 a)) : Ct RX2 cX2_cond (2, some (.object "PassportOffice$Cond"), [], false, rmm 35 K (3 * K)) [vr 2 0] μ Q := by
  have e400 := hr.2.2.2.2.1
  exact (R_parse 2100).2.2 2100 (Nat.le_refl _) 0 a 35 K μ Q (by omega) (by omega) (by omega) hr h10 hK h
end R12
