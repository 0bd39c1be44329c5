/-! Model: a law is read, and kept -/
section M18
variable {μ μ' : Mem} {Q : Res → Mem → Prop} {T : Nat → Int32} {e a : Nat} {σ : Sg} {Λ : Lws}
/-- a clause of the draft, its steps ahead of S -/
def clB (μ : Mem) (S c : Nat) (q : Cl3) : Prop := gI μ 63 0 (192 + c) = q.1 ∧ (q.1 ≠ 4 → gI μ 64 0 (192 + c) = q.2.1) ∧ ∃ b, gI μ 65 0 (192 + c) = nI b ∧ gI μ 66 0 (192 + c) = nI (b + q.2.2.length) ∧ b + q.2.2.length ≤ S ∧ stp μ b q.2.2
def SLw : Nat → Nat → Nat → Prop := fun p i k => i = 0 ∧ ((p = 50 ∧ (k = 4 ∨ k = 6 ∨ k = 7 ∨ k = 20)) ∨ ((p = 63 ∨ p = 64 ∨ p = 65 ∨ p = 66) ∧ 192 ≤ k) ∨ ((p = 67 ∨ p = 68 ∨ p = 69) ∧ 4800 ≤ k))
theorem SCl_SLw {n s p i k : Nat} (h : SCl n s p i k) : SLw p i k := by
  rcases h with h | h
  · exact ⟨h.1, by have := h.2; omega⟩
  · exact ⟨h.1, by have := h.2; omega⟩
theorem SR_SLw {p i k : Nat} (h : SR p i k) : SLw p i k := ⟨h.2.1, by have h1 := h.1; have h2 := h.2.2; omega⟩
theorem clB.keep {S n s c : Nat} {q : Cl3} (h : clB μ S c q) (hc : c < n) (hS : S ≤ s) (hD : Dif (SCl n s) μ μ') : clB μ' S c q := by
  have k1 : ∀ p, (p = 63 ∨ p = 64 ∨ p = 65 ∨ p = 66) → gI μ' p 0 (192 + c) = gI μ p 0 (192 + c) := fun p hp => hD.2 _ _ _ fun z => by
    rcases z with z | z
    · have := z.2; omega
    · have := z.2; omega
  obtain ⟨h1, h2, b, h3, h4, h5, h6⟩ := h
  refine ⟨(k1 63 (by omega)).trans h1, fun z => (k1 64 (by omega)).trans (h2 z), b, (k1 65 (by omega)).trans h3, (k1 66 (by omega)).trans h4, h5, fun j hj => ?_⟩
  have k2 : ∀ p, (p = 67 ∨ p = 68 ∨ p = 69) → gI μ' p 0 (4800 + (b + j)) = gI μ p 0 (4800 + (b + j)) := fun p hp => hD.2 _ _ _ fun z => by
    rcases z with z | z
    · have := z.2; omega
    · have := z.2; omega
  rw [k2 67 (by omega), k2 68 (by omega), k2 69 (by omega)]
  exact h6 j hj
theorem clB.keepR {S c : Nat} {q : Cl3} (h : clB μ S c q) (hD : Dif SR μ μ') : clB μ' S c q := by
  have k1 : ∀ p k, p ≠ 50 → gI μ' p 0 k = gI μ p 0 k := fun p k hp => hD.2 _ _ _ fun z => hp z.1
  obtain ⟨h1, h2, b, h3, h4, h5, h6⟩ := h
  refine ⟨(k1 63 _ (by decide)).trans h1, fun z => (k1 64 _ (by decide)).trans (h2 z), b, (k1 65 _ (by decide)).trans h3, (k1 66 _ (by decide)).trans h4, h5, fun j hj => ?_⟩
  rw [k1 67 _ (by decide), k1 68 _ (by decide), k1 69 _ (by decide)]
  exact h6 j hj
theorem clB.mono {S S' c : Nat} {q : Cl3} (h : clB μ S c q) (hS : S ≤ S') : clB μ S' c q := by
  obtain ⟨h1, h2, b, h3, h4, h5, h6⟩ := h
  exact ⟨h1, h2, b, h3, h4, by omega, h6⟩
/-- the draft holds the clauses -/
def DR (μ : Mem) (S : Nat) (l : List Cl3) : Prop := ∀ c, c < l.length → clB μ S c (l.getD c (0, 0, []))
def LRES (μ : Mem) (Q : Res → Mem → Prop) (r : Nat ⊕ List Cl3) : Prop := match r with
  | .inl x => ∀ μ', Dif SLw μ μ' → gI μ' 50 0 6 = nI x → Q (rI (-1)) μ'
  | .inr l => ∀ μ' S, Dif SLw μ μ' → gI μ' 50 0 20 = nI S → S ≤ 400 → DR μ' S l → l.length ≤ 16 → Q (rI (nI l.length)) μ'
theorem CRES.l {n s x : Nat} {r : Nat ⊕ (Nat × Cl3)} (hc : r = .inl x) (k : ∀ μ', Dif (SCl n s) μ μ' → gI μ' 50 0 6 = nI x → Q (rI 0) μ') : CRES T e μ n s Q r := by subst hc; exact k
theorem CRES.r {n s : Nat} {q : Nat × Cl3} {r : Nat ⊕ (Nat × Cl3)} (hc : r = .inr q) (k : ∀ μ', Dif (SCl n s) μ μ' → RD T e q.1 μ' → gI μ' 50 0 20 = nI (s + q.2.2.2.length) → stp μ' s q.2.2.2 → clD μ' n s q.2 → Q (rI 1) μ') : CRES T e μ n s Q r := by subst hc; exact k
theorem cls_ok {a p : Nat} {c : Cl3} (ha : a ≤ e) (h : clsP T e a = .inr (p, c)) : a ≤ p ∧ p ≤ e ∧ c.2.2.length ≤ p - a := by
  have b1 := skB_ge T e a
  have b2 : skB T e a ≤ e := skE_le ha
  have w1 := wdE_ge T e (skB T e a)
  have w2 : wdE T e (skB T e a) ≤ e := skE_le b2
  have num : ∀ q, cNum T e (skB T e a) = .inr q → a ≤ q.1 ∧ q.1 ≤ e := by
    intro q hq
    unfold cNum at hq
    split at hq
    · cases hq
    · split at hq
      · split at hq
        · cases hq
        · cases hq
          have x1 := skB_ge T e (wdE T e (skB T e a))
          have x2 : skB T e (wdE T e (skB T e a)) ≤ e := skE_le w2
          have x3 := wdE_ge T e (skB T e (wdE T e (skB T e a)))
          exact ⟨by omega, skE_le x2⟩
      · split at hq
        · cases hq; exact ⟨by omega, w2⟩
        · have := numP_ok w2 hq; exact ⟨by omega, this.2.1⟩
  unfold clsP at h
  cases hn : cNum T e (skB T e a) with
  | inl x => rw [hn] at h; cases h
  | inr q =>
    rw [hn] at h
    obtain ⟨n1, n2⟩ := num q hn
    have x1 := skB_ge T e q.1
    have x2 : skB T e q.1 ≤ e := skE_le n2
    have x3 := wdE_ge T e (skB T e q.1)
    have x4 : wdE T e (skB T e q.1) ≤ e := skE_le x2
    dsimp only at h
    split at h
    · cases hc : prs T e 2100 2 0 (wdE T e (skB T e q.1)) with
      | inl x => rw [hc] at h; cases h
      | inr r =>
        rw [hc] at h
        cases h
        have := prs_ok 2100 2 0 _ r.1 r.2 (by omega) x4 hc
        exact ⟨by omega, by omega, by show r.2.length ≤ _; omega⟩
    · cases h
      exact ⟨by omega, x2, Nat.zero_le _⟩
set_option maxRecDepth 4000 in
theorem M_readLaw (hr : RD T e 0 μ) (h : LRES μ Q (lawP T e)) : Ct RX5 cX5_readLaw (2, some .int, [], false, rmm 37 0 0) [vr 50 0] μ Q := by
  refine Ct.of (ls := [some (vr 50 0), none]) rfl fun Γ C ad => ?_
  have e400 := hr.2.1.2
  have hr0 : RD T e 0 (sI μ 50 0 20 0) := hr.dif (Dif.sI (S := SLw) ⟨rfl, by omega⟩) (by rw [gI_sI, if_neg (by simp)]; exact hr.2.2.1.1) (Nat.zero_le _) ⟨fun q => by have := q.2; omega, fun j q => by have := q.2; omega⟩
  refine z_aload0 dX5_readLaw_0 (z_iconst (v := 0) dX5_readLaw_1 (by decide) (z_putI fl_X5_217 dX5_readLaw_2 rfl rfl ⟨rfl, rfl⟩ (z_aload0 dX5_readLaw_5 (z_invV0 (md_X5_blanksBetween _) cv_X5_197 rfl dX5_readLaw_6 rfl (Nat.le_of_ble_eq_true rfl) (Rm.ofB rfl) (M_blanks hr0 (fun μ1 hr1 hb1 hD1 => ?_))))))
  have b1 := skB_ge T e 0
  have b2 : skB T e 0 ≤ e := skE_le (Nat.zero_le _)
  have hD01 : Dif SLw μ μ1 := (Dif.sI ⟨rfl, by omega⟩).tr (hD1.mono fun _ _ _ q => SR_SLw q)
  have n20 : gI μ1 50 0 20 = nI 0 := (k20 hD1).trans (by rw [gI_sI, if_pos ⟨rfl, rfl, rfl⟩]; rfl)
  unfold lawP at h
  by_cases q0 : skB T e 0 = e
  · rw [if_pos q0] at h
    refine z_aload0 dX5_readLaw_9 (z_getI fl_X5_187 dX5_readLaw_10 rfl rfl (z_aload0 dX5_readLaw_13 (z_getI fl_X5_184 dX5_readLaw_14 rfl rfl (z_icmp_ne 22 dX5_readLaw_17 (by decide) (fun c => absurd ((by rw [hr1.2.2.1.1, hr1.2.1.1, q0])) c) (fun _ => z_iconst (v := 0) dX5_readLaw_20 (by decide) (z_ireturn dX5_readLaw_21 rfl (Nat.le_of_ble_eq_true rfl) (Nat.le_of_ble_eq_true rfl) ?_))))))
    exact h μ1 0 hD01 n20 (by omega) (fun c hc => absurd hc (Nat.not_lt_zero _)) (by decide)
  · rw [if_neg q0] at h
    refine z_aload0 dX5_readLaw_9 (z_getI fl_X5_187 dX5_readLaw_10 rfl rfl (z_aload0 dX5_readLaw_13 (z_getI fl_X5_184 dX5_readLaw_14 rfl rfl (z_icmp_ne 22 dX5_readLaw_17 (by decide) (fun _ => z_iconst (v := 0) dX5_readLaw_22 (by decide) (z_istore1 dX5_readLaw_23 ?_)) (fun c => absurd c ((by rw [hr1.2.2.1.1, hr1.2.1.1]; exact fun z => q0 ((nI_eq (by omega) (by omega)).mp z))))))))
    have loop : ∀ m (n p : Nat) (dn : List Cl3) (s : Nat) (μ2 : Mem), n + m = 16 → dn.length = n → RD T e p μ2 → Dif SLw μ μ2 → gI μ2 50 0 20 = nI s → s ≤ p → DR μ2 s dn → LRES μ Q (match lwsP T e m p with | .inl x => .inl x | .inr l => .inr (dn ++ l)) → Z RX5 cX5_readLaw (2, some .int, [], false, rmm 37 0 0) (Γ, C, μ, ad, Q) (0) (0) (μ2) 24 [some (vr 50 0), some (vi (nI n))] [] := by
      intro m
      induction m with
      | zero =>
        intro n p dn s μ2 hn hdn hr2 hD2 h2s hsp hdr hL
        have hn16 : n = 16 := by omega
        refine z_aload0 dX5_readLaw_24 (z_iload1 dX5_readLaw_25 (z_invV1 (md_X5_readClause _) cv_X5_308 rfl dX5_readLaw_26 rfl (Nat.le_of_ble_eq_true rfl) (Rm.ofB rfl) (M_readClause hr2 h2s hsp (by omega) (CRES.l (if_pos hn16) fun μ3 hD3 hx3 => ?_))))
        refine z_if_ne 34 dX5_readLaw_29 (by decide) (fun c => absurd (rfl) c) (fun _ => z_iconst (v := (-1)) dX5_readLaw_32 (by decide) (z_ireturn dX5_readLaw_33 rfl (Nat.le_of_ble_eq_true rfl) (Nat.le_of_ble_eq_true rfl) ?_))
        exact hL μ3 (hD2.tr (hD3.mono fun _ _ _ q => SCl_SLw q)) hx3
      | succ m ih =>
        intro n p dn s μ2 hn hdn hr2 hD2 h2s hsp hdr hL
        have hne : ¬ n = 16 := by omega
        rw [lwsP] at hL
        cases hc : clsP T e p with
        | inl x =>
          rw [hc] at hL
          refine z_aload0 dX5_readLaw_24 (z_iload1 dX5_readLaw_25 (z_invV1 (md_X5_readClause _) cv_X5_308 rfl dX5_readLaw_26 rfl (Nat.le_of_ble_eq_true rfl) (Rm.ofB rfl) (M_readClause hr2 h2s hsp (by omega) (CRES.l ((if_neg hne).trans hc) fun μ3 hD3 hx3 => ?_))))
          refine z_if_ne 34 dX5_readLaw_29 (by decide) (fun c => absurd (rfl) c) (fun _ => z_iconst (v := (-1)) dX5_readLaw_32 (by decide) (z_ireturn dX5_readLaw_33 rfl (Nat.le_of_ble_eq_true rfl) (Nat.le_of_ble_eq_true rfl) ?_))
          exact hL μ3 (hD2.tr (hD3.mono fun _ _ _ q => SCl_SLw q)) hx3
        | inr q =>
          rw [hc] at hL
          dsimp only at hL
          have ok := cls_ok hr2.2.2.1.2 (show clsP T e p = .inr (q.1, q.2) from hc)
          refine z_aload0 dX5_readLaw_24 (z_iload1 dX5_readLaw_25 (z_invV1 (md_X5_readClause _) cv_X5_308 rfl dX5_readLaw_26 rfl (Nat.le_of_ble_eq_true rfl) (Rm.ofB rfl) (M_readClause hr2 h2s hsp (by omega) (CRES.r ((if_neg hne).trans hc) fun μ3 hD3 hr3 h3s hst3 hcl3 => ?_))))
          refine z_if_ne 34 dX5_readLaw_29 (by decide) (fun _ => z_aload0 dX5_readLaw_34 (z_invV0 (md_X5_blanksBetween _) cv_X5_197 rfl dX5_readLaw_35 rfl (Nat.le_of_ble_eq_true rfl) (Rm.ofB rfl) (M_blanks hr3 (fun μ4 hr4 hb4 hD4 => ?_)))) (fun c => absurd c (n10))
          have x1 := skB_ge T e q.1
          have x2 : skB T e q.1 ≤ e := skE_le ok.2.1
          have hD04 : Dif SLw μ μ4 := (hD2.tr (hD3.mono fun _ _ _ q => SCl_SLw q)).tr (hD4.mono fun _ _ _ q => SR_SLw q)
          have h4s := (k20 hD4).trans h3s
          have hdr4 : DR μ4 (s + q.2.2.2.length) (dn ++ [q.2]) := by
            intro c hc'
            rw [List.length_append, List.length_singleton] at hc'
            rcases Nat.lt_or_ge c dn.length with z | z
            · rw [getD_app z]
              exact (((hdr c z).keep (by omega) (Nat.le_refl _) hD3).keepR hD4).mono (by omega)
            · rw [getD_appR z, show c - dn.length = 0 by omega]
              have ec : c = n := by omega
              subst ec
              refine clB.keepR ?_ hD4
              exact ⟨hcl3.1, hcl3.2.1, s, hcl3.2.2.1, hcl3.2.2.2, Nat.le_refl _, hst3⟩
          by_cases qe : skB T e q.1 = e
          · rw [if_pos qe] at hL
            refine z_aload0 dX5_readLaw_38 (z_getI fl_X5_187 dX5_readLaw_39 rfl rfl (z_aload0 dX5_readLaw_42 (z_getI fl_X5_184 dX5_readLaw_43 rfl rfl (z_icmp_ne 53 dX5_readLaw_46 (by decide) (fun c => absurd ((by rw [hr4.2.2.1.1, hr4.2.1.1, qe])) c) (fun _ => z_iload1 dX5_readLaw_49 (z_iconst (v := 1) dX5_readLaw_50 (by decide) (z_iadd dX5_readLaw_51 (z_ireturn dX5_readLaw_52 rfl (Nat.le_of_ble_eq_true rfl) (Nat.le_of_ble_eq_true rfl) ?_))))))))
            have hl : (dn ++ [q.2]).length = n + 1 := by rw [List.length_append, List.length_singleton, hdn]
            have := hL μ4 (s + q.2.2.2.length) hD04 h4s (by omega) hdr4 (by rw [hl]; omega)
            rw [hl] at this
            rw [nI_1]
            exact this
          · rw [if_neg qe] at hL
            have ne : ¬ gI μ4 50 0 4 = gI μ4 50 0 5 := by rw [hr4.2.2.1.1, hr4.2.1.1]; exact fun z => qe ((nI_eq (by omega) (by omega)).mp z)
            by_cases q59 : T (skB T e q.1) = 59
            · rw [if_pos q59] at hL
              refine z_aload0 dX5_readLaw_38 (z_getI fl_X5_187 dX5_readLaw_39 rfl rfl (z_aload0 dX5_readLaw_42 (z_getI fl_X5_184 dX5_readLaw_43 rfl rfl (z_icmp_ne 53 dX5_readLaw_46 (by decide) (fun _ => z_aload0 dX5_readLaw_53 (z_bipush (v := 59) dX5_readLaw_54 (by decide) (z_bipush (v := 59) dX5_readLaw_56 (by decide) (z_invV2 (md_X5_isAt _) cv_X5_190 rfl dX5_readLaw_58 rfl (Nat.le_of_ble_eq_true rfl) (Rm.ofB rfl) (M_isAt hr4 (z_if_ne 66 dX5_readLaw_61 (by decide) (fun _ => z_aload0 dX5_readLaw_66 (z_dupa dX5_readLaw_67 (z_getI fl_X5_187 dX5_readLaw_68 rfl rfl (z_iconst (v := 1) dX5_readLaw_71 (by decide) (z_iadd dX5_readLaw_72 (z_putI fl_X5_187 dX5_readLaw_73 rfl rfl ⟨rfl, rfl⟩ (z_iinc1 dX5_readLaw_76 (inc1 n) (z_goto 24 dX5_readLaw_79 (by decide) ?_)))))))) (fun c => absurd c ((by rw [decide_eq_true ⟨by omega, rng1.mpr q59⟩]; exact n10))))))))) (fun c => absurd c (ne))))))
              refine ih (n + 1) (skB T e q.1 + 1) (dn ++ [q.2]) (s + q.2.2.2.length) _ (by omega) (by rw [List.length_append, List.length_singleton, hdn]) (hr4.dif (Dif.sI (S := SR) ⟨rfl, rfl, Or.inl rfl⟩) (by rw [gI_sI, if_pos ⟨rfl, rfl, rfl⟩, hr4.2.2.1.1, nI_1]) (by omega) nSR) (hD04.tr (Dif.sI ⟨rfl, by omega⟩)) (by rw [gI_sI, if_neg (by simp)]; exact h4s) (by omega) (fun c hc' => (hdr4 c hc').keepR (Dif.sI ⟨rfl, rfl, Or.inl rfl⟩)) ?_
              cases hl : lwsP T e m (skB T e q.1 + 1) with
              | inl x => rw [hl] at hL; exact hL
              | inr l =>
                rw [hl] at hL
                have ea : dn ++ q.2 :: l = dn ++ [q.2] ++ l := by simp
                dsimp only at hL ⊢
                rw [ea] at hL
                exact hL
            · rw [if_neg q59] at hL
              refine z_aload0 dX5_readLaw_38 (z_getI fl_X5_187 dX5_readLaw_39 rfl rfl (z_aload0 dX5_readLaw_42 (z_getI fl_X5_184 dX5_readLaw_43 rfl rfl (z_icmp_ne 53 dX5_readLaw_46 (by decide) (fun _ => z_aload0 dX5_readLaw_53 (z_bipush (v := 59) dX5_readLaw_54 (by decide) (z_bipush (v := 59) dX5_readLaw_56 (by decide) (z_invV2 (md_X5_isAt _) cv_X5_190 rfl dX5_readLaw_58 rfl (Nat.le_of_ble_eq_true rfl) (Rm.ofB rfl) (M_isAt hr4 (z_if_ne 66 dX5_readLaw_61 (by decide) (fun c => absurd ((by rw [decide_eq_false (fun z => q59 (rng1.mp z.2))]; rfl)) c) (fun _ => z_iconst (v := (-1)) dX5_readLaw_64 (by decide) (z_ireturn dX5_readLaw_65 rfl (Nat.le_of_ble_eq_true rfl) (Nat.le_of_ble_eq_true rfl) ?_)))))))) (fun c => absurd c (ne))))))
              exact hL μ4 hD04 hb4
    exact loop 16 0 _ [] 0 μ1 rfl rfl hr1 hD01 n20 (Nat.zero_le _) (fun c hc => absurd hc (Nat.not_lt_zero _)) (by
      cases hl : lwsP T e 16 (skB T e 0) with
      | inl x => rw [hl] at h; exact h
      | inr l => rw [hl] at h; exact h)
end M18
