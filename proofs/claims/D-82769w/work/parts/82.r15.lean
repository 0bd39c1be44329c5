/-! the Reader: a law -/
def TGx : Nat → Prop := fun p => p = 9 ∨ (28 ≤ p ∧ p ≤ 31)
/-- reading a law: what is kept -/
def FG (μ μ' : Mem) : Prop := FX SKx TGx μ μ' ∧ KP μ μ'
def lw0 (μ : Mem) (e : Nat) : Mem := sI (sI (sI μ 2 0 8 (nI e)) 2 0 9 0) 2 0 10 0
/-- the clauses read so far -/
def RWF (μ : Mem) (l : List Cl3) : Prop := ∀ j, j < l.length → ∃ h, gP μ 9 0 j = some (28, h) ∧ clX μ h (l.getD j (0, 0, []))
section R15
variable {μ μ' μ'' : Mem} {Q : Res → Mem → Prop} {T : Nat → Int32} {e a b : Nat}
theorem FG.tr (h1 : FG μ μ') (h2 : FG μ' μ'') : FG μ μ'' := ⟨h1.1.tr h2.1, h1.2.tr h2.2⟩
theorem FK.g (h : FK μ μ') : FG μ μ' := ⟨h.1.mono (fun _ _ _ q => q) (fun _ q => Or.inr q), h.2⟩
theorem RX.fg {a' : Nat} (h : RX T e a μ) (hF : FG μ μ') (ha : gI μ' 2 0 9 = nI a') (ha' : a' ≤ e) : RX T e a' μ' := by
  obtain ⟨h1, h2, h3, h4, h5, h6⟩ := h
  exact ⟨h1.of fun p i k hp => hF.1.P i k (by unfold TGx; omega), (hF.1.I (by unfold SKx; omega)).trans h2, ha, ha', h5, fun j hj => by rw [hF.1.I (by unfold SKx; omega)]; exact h6 j hj⟩
theorem RWF.kp {l : List Cl3} (h : RWF μ l) (hk : KP μ μ') (e9 : ∀ k, gP μ' 9 0 k = gP μ 9 0 k) : RWF μ' l := fun j hj => by
  obtain ⟨h', g1, g2⟩ := h j hj
  exact ⟨h', by rw [e9]; exact g1, g2.kp hk⟩
theorem KC.l {K x : Nat} {r : Nat ⊕ (Nat × Cl3)} (hr : r = .inl x) (h : e - a + 1 ≤ K) : KC e a K r := by rw [hr]; exact h
theorem KC.r {K : Nat} {r : Nat ⊕ (Nat × Cl3)} {q : Nat × Cl3} (hr : r = .inr q) (h : q.1 - a ≤ K) : KC e a K r := by rw [hr]; exact h
theorem cls_id (T : Nat → Int32) (e a : Nat) : clsP T e (skB T e a) = clsP T e a := by
  unfold clsP
  rw [show skB T e (skB T e a) = skB T e a from skE_id a]
theorem and_m1 : ∀ n, n < 256 → ¬ (nI n - 128) &&& 255 = -1 := by decide +kernel
theorem sg_m1 {c : Nat} (hc : c < e) (hT : -128 ≤ T c ∧ T c ≤ 127) : ¬ sgF T e c = -1 := by
  unfold sgF
  rw [if_pos hc]
  obtain ⟨n, hn, en⟩ := byte_n hT.1 hT.2
  rw [en]
  exact and_m1 n hn
theorem cls_ok {q : Nat × Cl3} (ha : a ≤ e) (h : clsP T e a = .inr q) : a ≤ q.1 ∧ q.1 ≤ e := by
  have b1 := skB_ge T e a
  have b2 : skB T e a ≤ e := skE_le ha
  have w1 := wdE_ge T e (skB T e a)
  have w2 : wdE T e (skB T e a) ≤ e := skE_le b2
  have num : ∀ r, cNum T e (skB T e a) = .inr r → a ≤ r.1 ∧ r.1 ≤ e := by
    intro r hr
    unfold cNum at hr
    split at hr
    · cases hr
    · split at hr
      · have i1 := skB_ge T e (wdE T e (skB T e a))
        have i2 : skB T e (wdE T e (skB T e a)) ≤ e := skE_le w2
        have i3 := wdE_ge T e (skB T e (wdE T e (skB T e a)))
        have i4 : wdE T e (skB T e (wdE T e (skB T e a))) ≤ e := skE_le i2
        split at hr
        · cases hr
        · cases hr; exact ⟨by show a ≤ wdE T e _; omega, i4⟩
      · split at hr
        · cases hr; exact ⟨by show a ≤ wdE T e _; omega, w2⟩
        · have := numP_ok (p := r.1) (v := r.2) w2 hr
          exact ⟨by omega, this.2.1⟩
  unfold clsP at h
  cases hn : cNum T e (skB T e a) with
  | inl x => rw [hn] at h; cases h
  | inr r =>
    obtain ⟨n1, n2⟩ := num r hn
    rw [hn] at h
    dsimp only at h
    have s1 := skB_ge T e r.1
    have s2 : skB T e r.1 ≤ e := skE_le n2
    have w3 := wdE_ge T e (skB T e r.1)
    have w4 : wdE T e (skB T e r.1) ≤ e := skE_le s2
    split at h
    · cases hp : prs T e 2100 2 0 (wdE T e (skB T e r.1)) with
      | inl x => rw [hp] at h; cases h
      | inr r' =>
        rw [hp] at h
        cases h
        have := prs_ok 2100 2 0 _ r'.1 r'.2 (by omega) w4 hp
        exact ⟨by show a ≤ r'.1; omega, this.2.2.1⟩
    · cases h
      exact ⟨by show a ≤ skB T e r.1; omega, s2⟩
set_option maxRecDepth 4000 in
theorem X_law {day : Int32} (hX0 : XT μ) (he : e ≤ 400) (hT : ∀ j, j < 400 → gI μ 5 0 j = T j ∧ -128 ≤ T j ∧ T j ≤ 127)
    (h1 : ∀ l μ4, lawP T e = .inr l → FG (lw0 μ e) μ4 → l.length ≤ 16 → RWF μ4 l → Q (rO (some (26, gC μ4 26))) (lwM (nw μ4 26 0) 26 27 (gC μ4 26) l.length day))
    (h2 : ∀ x μ4, lawP T e = .inl x → FG (lw0 μ e) μ4 → gI μ4 3 0 6 = nI x → Q (rX 3 0) μ4) : Ct RX2 cX2_law (6, some (.object "PassportOffice$Law"), [], false, rmm 37 403 1222) [vr 2 0, vi (nI e), vi day] μ Q := by
  refine Ct.of (ls := [some (vr 2 0), some (vi (nI e)), some (vi day), none, none, none]) rfl fun Γ C ad => ?_
  have hr0 : RX T e 0 (lw0 μ e) := by
    refine ⟨hX0.of fun _ _ _ _ => rfl, ?_, ?_, Nat.zero_le _, he, fun j hj => ?_⟩
    · unfold lw0; rw [gI_sI, if_neg (by simp), gI_sI, if_neg (by simp), gI_sI, if_pos ⟨rfl, rfl, rfl⟩]
    · unfold lw0; rw [gI_sI, if_neg (by simp), gI_sI, if_pos ⟨rfl, rfl, rfl⟩]; rfl
    · unfold lw0; rw [gI_sI, if_neg (by simp), gI_sI, if_neg (by simp), gI_sI, if_neg (by simp)]; exact hT j hj
  have d0 : gI (lw0 μ e) 2 0 10 = nI 0 := by unfold lw0; rw [gI_sI, if_pos ⟨rfl, rfl, rfl⟩]; rfl
  have fin : ∀ (l : List Cl3) (μ2 : Mem) (k n : Nat) (o4 o5 : Option AV), l.length ≤ 16 → lawP T e = .inr l → FG (lw0 μ e) μ2 → XT μ2 → RWF μ2 l → k ≤ 401 → n ≤ 1203 →
      Z RX2 cX2_law (6, some (.object "PassportOffice$Law"), [], false, rmm 37 403 1222) (Γ, C, μ, ad, Q) k n μ2 123 [some (vr 2 0), some (vi (nI e)), some (vi day), some (vi (nI l.length)), o4, o5] [] := by
    intro l μ2 k n o4 o5 hl el F2 hX2 hrw hk hn
    refine z_new 26 nw_X2_125 dX2_law_123 rfl (by decide) rfl (show k + 1 ≤ 403 by omega) (show n + 3 ≤ 1222 by omega) (z_dupa dX2_law_126 (z_iload2 dX2_law_127 (z_aload0 dX2_law_128 (z_getP fl_X2_75 dX2_law_129 rfl rfl (hX2.f2 4 (by decide)) (z_iload3 dX2_law_132 (z_invI3 (md_X11_init _) ci_X2_127 dX2_law_133 rfl (Nat.le_of_ble_eq_true rfl) (Rm.gn (by decide) (by decide) (show k + 1 + 1 ≤ 403 by omega) (show n + 3 + 16 ≤ 1222 by omega)) (X_lwInit hl (fun j hj => by obtain ⟨h', g1, -⟩ := hrw j hj; exact ⟨h', by rw [gP_nw, if_neg (by simp)]; exact g1⟩) (z_areturn dX2_law_136 rfl (Or.inl ⟨_, rfl⟩) (show _ ≤ 403 by omega) (show _ ≤ 1222 by omega) ?_))))))))
    exact h1 l μ2 el F2 hl hrw
  have loop : ∀ m c a (l : List Cl3) (μ2 : Mem) (k n : Nat) (o5 : Option AV), c + m = 16 → l.length = c → RX T e a μ2 → FG (lw0 μ e) μ2 → gI μ2 2 0 10 = nI 0 → RWF μ2 l → k ≤ a → n ≤ 3 * a → (∀ r, lwsP T e m a = .inr r → lawP T e = .inr (l ++ r)) → (∀ x, lwsP T e m a = .inl x → lawP T e = .inl x) →
      Z RX2 cX2_law (6, some (.object "PassportOffice$Law"), [], false, rmm 37 403 1222) (Γ, C, μ, ad, Q) k n μ2 37 [some (vr 2 0), some (vi (nI e)), some (vi day), some (vi (nI c)), some (vi 1), o5] [] := by
    intro m
    induction m with
    | zero =>
      intro c a l μ2 k n o5 hcm hlc hr2 F2 d2 hrw hk hn g1 g2
      have hae := hr2.2.2.2.1
      have hX2 := hr2.1
      refine z_aload0 dX2_law_37 (z_invV0 (md_X2_sign _) cv_X2_99 rfl dX2_law_38 rfl (Nat.le_of_ble_eq_true rfl) (Rm.gn (by decide) (by decide) (by omega) (by omega)) (X_sign hr2 (fun μ3 hr3 hD3 => ?_)))
      have hX3 := hr3.1
      have h93 := hr3.2.2.1
      refine z_istore5 dX2_law_41 (z_iload3 dX2_law_43 (z_bipush (v := 16) dX2_law_44 (by decide) (z_icmp_ne 57 dX2_law_46 (by decide) (fun c => absurd ((by rw [show c = 16 by omega]; rfl)) c) (fun _ => z_aload0 dX2_law_49 (z_aload0 dX2_law_50 (z_getIv fl_X2_93 dX2_law_51 rfl rfl (h93) (z_invV1 (md_X2_fail _) cv_X2_114 rfl dX2_law_54 rfl (Nat.le_of_ble_eq_true rfl) (Rm.gn (by decide) (by decide) (by omega) (by omega)) (X_fail hX3 ?_))))))))
      exact ⟨rfl, h2 _ _ (g2 _ rfl) (F2.tr ((FK.s29 hD3).tr fk_fl).g) (by rw [gI_sI, if_pos ⟨rfl, rfl, rfl⟩])⟩
    | succ m ih =>
      intro c a l μ2 k n o5 hcm hlc hr2 F2 d2 hrw hk hn g1 g2
      have hae := hr2.2.2.2.1
      have hX2 := hr2.1
      have b1 := skB_ge T e a
      have b2 : skB T e a ≤ e := skE_le hae
      have n16 : ¬ nI c = 16 := fun z => by have := (nI_eq (b := 16) (by omega) (by decide)).mp z; omega
      have c16 : c < 16 := by omega
      refine z_aload0 dX2_law_37 (z_invV0 (md_X2_sign _) cv_X2_99 rfl dX2_law_38 rfl (Nat.le_of_ble_eq_true rfl) (Rm.gn (by decide) (by decide) (by omega) (by omega)) (X_sign hr2 (fun μ3 hr3 hD3 => ?_)))
      have hX3 := hr3.1
      have F03 := F2.tr (FK.s29 hD3).g
      have d3 : gI μ3 2 0 10 = nI 0 := by rw [hD3.2 _ _ _ (by unfold S29; omega)]; exact d2
      have ecl := cls_id T e a
      unfold lwsP at g1 g2
      cases hcl : clsP T e a with
      | inl x =>
        rw [hcl] at g2
        refine z_istore5 dX2_law_41 (z_iload3 dX2_law_43 (z_bipush (v := 16) dX2_law_44 (by decide) (z_icmp_ne 57 dX2_law_46 (by decide) (fun _ => z_aload0 dX2_law_57 (z_getP fl_X2_75 dX2_law_58 rfl rfl (hX3.f2 4 (by decide)) (z_iload3 dX2_law_61 (z_aload0 dX2_law_62 (z_invV0 (md_X2_clause _) cv_X2_121 rfl dX2_law_63 rfl (Nat.le_of_ble_eq_true rfl) (Rm.gn (by decide) (by decide) (by omega) (by omega)) (X_clause (K := e - skB T e a + 1) hr3 d3 (KC.l (ecl.trans hcl) (Nat.le_refl _)) (fun q h μ4 ec _ _ _ _ => ?_) (fun y μ4 ec F4 hx4 => ?_))))))) (fun c => absurd c (n16)))))
        · rw [ecl, hcl] at ec; cases ec
        · rw [ecl, hcl] at ec
          cases ec
          exact ⟨rfl, h2 _ _ (g2 _ rfl) (F03.tr F4.g) hx4⟩
      | inr q =>
        rw [hcl] at g1 g2
        dsimp only at g1 g2
        have ck := cls_ok (q := q) b2 (ecl.trans hcl)
        refine z_istore5 dX2_law_41 (z_iload3 dX2_law_43 (z_bipush (v := 16) dX2_law_44 (by decide) (z_icmp_ne 57 dX2_law_46 (by decide) (fun _ => z_aload0 dX2_law_57 (z_getP fl_X2_75 dX2_law_58 rfl rfl (hX3.f2 4 (by decide)) (z_iload3 dX2_law_61 (z_aload0 dX2_law_62 (z_invV0 (md_X2_clause _) cv_X2_121 rfl dX2_law_63 rfl (Nat.le_of_ble_eq_true rfl) (Rm.gn (by decide) (by decide) (by omega) (by omega)) (X_clause (K := q.1 - skB T e a) hr3 d3 (KC.r (ecl.trans hcl) (Nat.le_refl _)) (fun q' h μ4 ec hr4 F4 d4 c4 => ?_) (fun y μ4 ec F4 hx4 => ?_))))))) (fun c => absurd c (n16)))))
        · rw [ecl, hcl] at ec
          cases ec
          have hX4 := hr4.1
          have r1 := skB_ge T e q.1
          have r2 : skB T e q.1 ≤ e := skE_le ck.2
          have F5 : FG μ4 (sP μ4 9 0 c (some (28, h))) := ⟨FX.rf.wP (Or.inl rfl), KP.sP (Or.inl (by omega))⟩
          have hr5 : RX T e q.1 (sP μ4 9 0 c (some (28, h))) := hr4.fg F5 hr4.2.2.1 hr4.2.2.2.1
          have F05 : FG (lw0 μ e) (sP μ4 9 0 c (some (28, h))) := F03.tr (F4.g.tr F5)
          have hrw5 : RWF (sP μ4 9 0 c (some (28, h))) (l ++ [q.2]) := by
            intro j hj
            rw [List.length_append, List.length_singleton] at hj
            by_cases hjc : j = c
            · refine ⟨h, by rw [gP_sP, if_pos ⟨rfl, rfl, hjc⟩], ?_⟩
              have : (l ++ [q.2]).getD j (0, 0, []) = q.2 := by rw [hjc, ← hlc]; simp
              rw [this]
              exact c4.kp F5.2
            · obtain ⟨h', g3, g4⟩ := hrw j (by omega)
              have hpe : gP μ4 9 0 j = gP μ2 9 0 j := by rw [F4.1.P 0 j (by unfold TKx; omega), hD3.P]
              refine ⟨h', by rw [gP_sP, if_neg (by omega), hpe]; exact g3, ?_⟩
              have : (l ++ [q.2]).getD j (0, 0, []) = l.getD j (0, 0, []) := by
                simp [List.getElem?_append, show j < l.length by omega]
              rw [this]
              exact g4.kp ((FK.s29 hD3).tr F4).2 |>.kp F5.2
          have hll : (l ++ [q.2]).length = c + 1 := by rw [List.length_append, List.length_singleton, hlc]
          refine z_aast dX2_law_66 rfl (by decide) rfl rfl rfl ⟨rfl, c16, Nat.le_of_ble_eq_true rfl⟩ (z_iinc3 dX2_law_67 (inc1 c) (z_aload0 dX2_law_70 (z_invV0 (md_X2_sign _) cv_X2_99 rfl dX2_law_71 rfl (Nat.le_of_ble_eq_true rfl) (Rm.gn (by decide) (by decide) (by omega) (by omega)) (X_sign hr5 (fun μ6 hr6 hD6 => ?_)))))
          have hX6 := hr6.1
          have h96 := hr6.2.2.1
          have F06 := F05.tr (FK.s29 hD6).g
          have d6 : gI μ6 2 0 10 = nI 0 := by rw [hD6.2 _ _ _ (by unfold S29; omega)]; exact d4
          have hrw6 := hrw5.kp (FK.s29 hD6).2 (fun k => hD6.P _ _ _)
          by_cases hend : skB T e q.1 = e
          · rw [if_pos hend] at g1
            have es : sgF T e (skB T e q.1) = -1 := by unfold sgF; rw [if_neg (by omega)]
            rw [es]
            refine z_bipush (v := 59) dX2_law_74 (by decide) (z_icmp_ne 83 dX2_law_76 (by decide) (fun _ => z_iconst (v := 0) dX2_law_83 (by decide) (z_istore4 dX2_law_84 (z_iload4 dX2_law_86 (z_if_eq 104 dX2_law_88 (by decide) (fun _ => z_aload0 dX2_law_104 (z_invV0 (md_X2_sign _) cv_X2_99 rfl dX2_law_105 rfl (Nat.le_of_ble_eq_true rfl) (Rm.gn (by decide) (by decide) (by omega) (by omega)) (X_sign hr6 (fun μ7 hr7 hD7 => ?_)))) (fun c => absurd (rfl) c))))) (fun c => absurd c ((by decide))))
            have eid : skB T e (skB T e q.1) = skB T e q.1 := skE_id q.1
            rw [eid] at hr7 ⊢
            rw [es]
            have hX7 := hr7.1
            refine z_iconst (v := (-1)) dX2_law_108 (by decide) (z_icmp_eq 120 dX2_law_109 (by decide) (fun _ => z_goto 32 dX2_law_120 (by decide) (z_iload4 dX2_law_32 (z_if_eq 123 dX2_law_34 (by decide) (fun _ => ?_) (fun c => absurd (rfl) c)))) (fun c => absurd (rfl) c))
            have := fin (l ++ [q.2]) μ7 (k + (q.1 - skB T e a)) (n + 3 * (q.1 - skB T e a)) (some (vi 0)) (some (vi (sgF T e (skB T e a)))) (by omega) (g1 _ rfl) (F06.tr (FK.s29 hD7).g) hX7 (hrw6.kp (FK.s29 hD7).2 (fun k => hD7.P _ _ _)) (by omega) (by omega)
            rw [hll] at this
            exact this
          · rw [if_neg hend] at g1 g2
            have hlt : skB T e q.1 < e := by omega
            have hb := (hr6.2.2.2.2.2 (skB T e q.1) (by omega)).2
            by_cases h59 : T (skB T e q.1) = 59
            · rw [if_pos h59] at g1 g2
              have es : sgF T e (skB T e q.1) = 59 := (sg_eq (x := 59) hb (by decide)).mpr ⟨hlt, h59⟩
              rw [es]
              refine z_bipush (v := 59) dX2_law_74 (by decide) (z_icmp_ne 83 dX2_law_76 (by decide) (fun c => absurd (rfl) c) (fun _ => z_iconst (v := 1) dX2_law_79 (by decide) (z_goto 84 dX2_law_80 (by decide) (z_istore4 dX2_law_84 (z_iload4 dX2_law_86 (z_if_eq 104 dX2_law_88 (by decide) (fun c => absurd c (n10)) (fun _ => z_aload0 dX2_law_91 (z_dupa dX2_law_92 (z_getIv fl_X2_93 dX2_law_93 rfl rfl (h96) (z_iconst (v := 1) dX2_law_96 (by decide) (z_iadd dX2_law_97 (z_putI fl_X2_93 dX2_law_98 rfl rfl ⟨rfl, rfl⟩ (z_goto 120 dX2_law_101 (by decide) (z_goto 32 dX2_law_120 (by decide) (z_iload4 dX2_law_32 (z_if_eq 123 dX2_law_34 (by decide) (fun c => absurd c (n10)) (fun _ => ?_)))))))))))))))))
              have F7 : FG μ6 (sI μ6 2 0 9 (nI (skB T e q.1) + 1)) := fk_9.g
              refine ih (c + 1) (skB T e q.1 + 1) (l ++ [q.2]) _ _ _ _ (by omega) hll (hr6.fg F7 (by rw [gI_sI, if_pos ⟨rfl, rfl, rfl⟩, nI_1]) (by omega)) (F06.tr F7) (by rw [gI_sI, if_neg (by simp)]; exact d6) (hrw6.kp F7.2 (fun _ => rfl)) (by omega) (by omega) (fun r hr => ?_) (fun x hx => ?_)
              · have := g1 (q.2 :: r) (by rw [hr])
                rw [this, List.append_assoc]
                rfl
              · exact g2 x (by rw [hx])
            · rw [if_neg h59] at g2
              have n59 : ¬ sgF T e (skB T e q.1) = 59 := fun z => h59 ((sg_eq (x := 59) hb (by decide)).mp z).2
              have nm1 : ¬ sgF T e (skB T e q.1) = -1 := sg_m1 hlt hb
              refine z_bipush (v := 59) dX2_law_74 (by decide) (z_icmp_ne 83 dX2_law_76 (by decide) (fun _ => z_iconst (v := 0) dX2_law_83 (by decide) (z_istore4 dX2_law_84 (z_iload4 dX2_law_86 (z_if_eq 104 dX2_law_88 (by decide) (fun _ => z_aload0 dX2_law_104 (z_invV0 (md_X2_sign _) cv_X2_99 rfl dX2_law_105 rfl (Nat.le_of_ble_eq_true rfl) (Rm.gn (by decide) (by decide) (by omega) (by omega)) (X_sign hr6 (fun μ7 hr7 hD7 => ?_)))) (fun c => absurd (rfl) c))))) (fun c => absurd c (n59)))
              have eid : skB T e (skB T e q.1) = skB T e q.1 := skE_id q.1
              rw [eid] at hr7 ⊢
              have hX7 := hr7.1
              have h97 := hr7.2.2.1
              refine z_iconst (v := (-1)) dX2_law_108 (by decide) (z_icmp_eq 120 dX2_law_109 (by decide) (fun c => absurd c (nm1)) (fun _ => z_aload0 dX2_law_112 (z_aload0 dX2_law_113 (z_getIv fl_X2_93 dX2_law_114 rfl rfl (h97) (z_invV1 (md_X2_fail _) cv_X2_114 rfl dX2_law_117 rfl (Nat.le_of_ble_eq_true rfl) (Rm.gn (by decide) (by decide) (by omega) (by omega)) (X_fail hX7 ?_))))))
              exact ⟨rfl, h2 _ _ (g2 _ rfl) (F06.tr ((FK.s29 hD7).tr fk_fl).g) (by rw [gI_sI, if_pos ⟨rfl, rfl, rfl⟩])⟩
        · rw [ecl, hcl] at ec; cases ec
  refine z_aload0 dX2_law_0 (z_iload1 dX2_law_1 (z_putI fl_X2_96 dX2_law_2 rfl rfl ⟨rfl, rfl⟩ (z_aload0 dX2_law_5 (z_iconst (v := 0) dX2_law_6 (by decide) (z_putI fl_X2_93 dX2_law_7 rfl rfl ⟨rfl, rfl⟩ (z_aload0 dX2_law_10 (z_iconst (v := 0) dX2_law_11 (by decide) (z_putI fl_X2_118 dX2_law_12 rfl rfl ⟨rfl, rfl⟩ (z_iconst (v := 0) dX2_law_15 (by decide) (z_istore3 dX2_law_16 (z_aload0 dX2_law_17 (z_invV0 (md_X2_sign _) cv_X2_99 rfl dX2_law_18 rfl (Nat.le_of_ble_eq_true rfl) (Rm.gn (by decide) (by decide) (by omega) (by omega)) (X_sign hr0 (fun μ1 hr1 hD1 => ?_))))))))))))))
  have F1 := (FK.s29 hD1).g
  have hX1 := hr1.1
  have d1 : gI μ1 2 0 10 = nI 0 := by rw [hD1.2 _ _ _ (by unfold S29; omega)]; exact d0
  have s2 : skB T e 0 ≤ e := skE_le (Nat.zero_le _)
  unfold lawP at fin loop
  by_cases hend : skB T e 0 = e
  · rw [if_pos hend] at fin
    have es : sgF T e (skB T e 0) = -1 := by unfold sgF; rw [if_neg (by omega)]
    rw [es]
    refine z_iconst (v := (-1)) dX2_law_21 (by decide) (z_icmp_eq 29 dX2_law_22 (by decide) (fun _ => z_iconst (v := 0) dX2_law_29 (by decide) (z_istore4 dX2_law_30 (z_iload4 dX2_law_32 (z_if_eq 123 dX2_law_34 (by decide) (fun _ => ?_) (fun c => absurd (rfl) c))))) (fun c => absurd (rfl) c))
    exact fin [] μ1 0 0 (some (vi 0)) none (by simp) rfl F1 hX1 (fun j hj => absurd hj (Nat.not_lt_zero _)) (by omega) (by omega)
  · rw [if_neg hend] at loop
    have nm1 : ¬ sgF T e (skB T e 0) = -1 := sg_m1 (by omega) (hr1.2.2.2.2.2 _ (by omega)).2
    refine z_iconst (v := (-1)) dX2_law_21 (by decide) (z_icmp_eq 29 dX2_law_22 (by decide) (fun c => absurd c (nm1)) (fun _ => z_iconst (v := 1) dX2_law_25 (by decide) (z_goto 30 dX2_law_26 (by decide) (z_istore4 dX2_law_30 (z_iload4 dX2_law_32 (z_if_eq 123 dX2_law_34 (by decide) (fun c => absurd c (n10)) (fun _ => ?_)))))))
    exact loop 16 0 (skB T e 0) [] μ1 0 0 none rfl rfl hr1 F1 d1 (fun j hj => absurd hj (Nat.not_lt_zero _)) (Nat.zero_le _) (Nat.zero_le _) (fun r hr => hr) (fun x hx => hx)
set_option maxRecDepth 4000 in
theorem X_lawB {day : Int32} (hX0 : XT μ) (he : e ≤ 400) (hT : ∀ j, j < 400 → gI μ 5 0 j = T j ∧ -128 ≤ T j ∧ T j ≤ 127)
    (h1 : ∀ l μ4, lawP T e = .inr l → FG (lw0 μ e) μ4 → l.length ≤ 16 → RWF μ4 l → Q (rO (some (45, gC μ4 45))) (lwM (nw μ4 45 0) 45 46 (gC μ4 45) l.length day))
    (h2 : ∀ x μ4, lawP T e = .inl x → FG (lw0 μ e) μ4 → gI μ4 3 0 6 = nI x → Q (rX 3 0) μ4) : Ct RX2 cX2_law (6, some (.object "PassportOffice$Law"), [], false, rmm 37 403 1222) [vr 2 0, vi (nI e), vi day] μ Q := by
  refine Ct.of (ls := [some (vr 2 0), some (vi (nI e)), some (vi day), none, none, none]) rfl fun Γ C ad => ?_
  have hr0 : RX T e 0 (lw0 μ e) := by
    refine ⟨hX0.of fun _ _ _ _ => rfl, ?_, ?_, Nat.zero_le _, he, fun j hj => ?_⟩
    · unfold lw0; rw [gI_sI, if_neg (by simp), gI_sI, if_neg (by simp), gI_sI, if_pos ⟨rfl, rfl, rfl⟩]
    · unfold lw0; rw [gI_sI, if_neg (by simp), gI_sI, if_pos ⟨rfl, rfl, rfl⟩]; rfl
    · unfold lw0; rw [gI_sI, if_neg (by simp), gI_sI, if_neg (by simp), gI_sI, if_neg (by simp)]; exact hT j hj
  have d0 : gI (lw0 μ e) 2 0 10 = nI 0 := by unfold lw0; rw [gI_sI, if_pos ⟨rfl, rfl, rfl⟩]; rfl
  have fin : ∀ (l : List Cl3) (μ2 : Mem) (k n : Nat) (o4 o5 : Option AV), l.length ≤ 16 → lawP T e = .inr l → FG (lw0 μ e) μ2 → XT μ2 → RWF μ2 l → k ≤ 401 → n ≤ 1203 →
      Z RX2 cX2_law (6, some (.object "PassportOffice$Law"), [], false, rmm 37 403 1222) (Γ, C, μ, ad, Q) k n μ2 123 [some (vr 2 0), some (vi (nI e)), some (vi day), some (vi (nI l.length)), o4, o5] [] := by
    intro l μ2 k n o4 o5 hl el F2 hX2 hrw hk hn
    refine z_new 45 nw_X2_125 dX2_law_123 rfl (by decide) rfl (show k + 1 ≤ 403 by omega) (show n + 3 ≤ 1222 by omega) (z_dupa dX2_law_126 (z_iload2 dX2_law_127 (z_aload0 dX2_law_128 (z_getP fl_X2_75 dX2_law_129 rfl rfl (hX2.f2 4 (by decide)) (z_iload3 dX2_law_132 (z_invI3 (md_X11_init _) ci_X2_127 dX2_law_133 rfl (Nat.le_of_ble_eq_true rfl) (Rm.gn (by decide) (by decide) (show k + 1 + 1 ≤ 403 by omega) (show n + 3 + 16 ≤ 1222 by omega)) (X_lwInitB hl (fun j hj => by obtain ⟨h', g1, -⟩ := hrw j hj; exact ⟨h', by rw [gP_nw, if_neg (by simp)]; exact g1⟩) (z_areturn dX2_law_136 rfl (Or.inl ⟨_, rfl⟩) (show _ ≤ 403 by omega) (show _ ≤ 1222 by omega) ?_))))))))
    exact h1 l μ2 el F2 hl hrw
  have loop : ∀ m c a (l : List Cl3) (μ2 : Mem) (k n : Nat) (o5 : Option AV), c + m = 16 → l.length = c → RX T e a μ2 → FG (lw0 μ e) μ2 → gI μ2 2 0 10 = nI 0 → RWF μ2 l → k ≤ a → n ≤ 3 * a → (∀ r, lwsP T e m a = .inr r → lawP T e = .inr (l ++ r)) → (∀ x, lwsP T e m a = .inl x → lawP T e = .inl x) →
      Z RX2 cX2_law (6, some (.object "PassportOffice$Law"), [], false, rmm 37 403 1222) (Γ, C, μ, ad, Q) k n μ2 37 [some (vr 2 0), some (vi (nI e)), some (vi day), some (vi (nI c)), some (vi 1), o5] [] := by
    intro m
    induction m with
    | zero =>
      intro c a l μ2 k n o5 hcm hlc hr2 F2 d2 hrw hk hn g1 g2
      have hae := hr2.2.2.2.1
      have hX2 := hr2.1
      refine z_aload0 dX2_law_37 (z_invV0 (md_X2_sign _) cv_X2_99 rfl dX2_law_38 rfl (Nat.le_of_ble_eq_true rfl) (Rm.gn (by decide) (by decide) (by omega) (by omega)) (X_sign hr2 (fun μ3 hr3 hD3 => ?_)))
      have hX3 := hr3.1
      have h93 := hr3.2.2.1
      refine z_istore5 dX2_law_41 (z_iload3 dX2_law_43 (z_bipush (v := 16) dX2_law_44 (by decide) (z_icmp_ne 57 dX2_law_46 (by decide) (fun c => absurd ((by rw [show c = 16 by omega]; rfl)) c) (fun _ => z_aload0 dX2_law_49 (z_aload0 dX2_law_50 (z_getIv fl_X2_93 dX2_law_51 rfl rfl (h93) (z_invV1 (md_X2_fail _) cv_X2_114 rfl dX2_law_54 rfl (Nat.le_of_ble_eq_true rfl) (Rm.gn (by decide) (by decide) (by omega) (by omega)) (X_fail hX3 ?_))))))))
      exact ⟨rfl, h2 _ _ (g2 _ rfl) (F2.tr ((FK.s29 hD3).tr fk_fl).g) (by rw [gI_sI, if_pos ⟨rfl, rfl, rfl⟩])⟩
    | succ m ih =>
      intro c a l μ2 k n o5 hcm hlc hr2 F2 d2 hrw hk hn g1 g2
      have hae := hr2.2.2.2.1
      have hX2 := hr2.1
      have b1 := skB_ge T e a
      have b2 : skB T e a ≤ e := skE_le hae
      have n16 : ¬ nI c = 16 := fun z => by have := (nI_eq (b := 16) (by omega) (by decide)).mp z; omega
      have c16 : c < 16 := by omega
      refine z_aload0 dX2_law_37 (z_invV0 (md_X2_sign _) cv_X2_99 rfl dX2_law_38 rfl (Nat.le_of_ble_eq_true rfl) (Rm.gn (by decide) (by decide) (by omega) (by omega)) (X_sign hr2 (fun μ3 hr3 hD3 => ?_)))
      have hX3 := hr3.1
      have F03 := F2.tr (FK.s29 hD3).g
      have d3 : gI μ3 2 0 10 = nI 0 := by rw [hD3.2 _ _ _ (by unfold S29; omega)]; exact d2
      have ecl := cls_id T e a
      unfold lwsP at g1 g2
      cases hcl : clsP T e a with
      | inl x =>
        rw [hcl] at g2
        refine z_istore5 dX2_law_41 (z_iload3 dX2_law_43 (z_bipush (v := 16) dX2_law_44 (by decide) (z_icmp_ne 57 dX2_law_46 (by decide) (fun _ => z_aload0 dX2_law_57 (z_getP fl_X2_75 dX2_law_58 rfl rfl (hX3.f2 4 (by decide)) (z_iload3 dX2_law_61 (z_aload0 dX2_law_62 (z_invV0 (md_X2_clause _) cv_X2_121 rfl dX2_law_63 rfl (Nat.le_of_ble_eq_true rfl) (Rm.gn (by decide) (by decide) (by omega) (by omega)) (X_clause (K := e - skB T e a + 1) hr3 d3 (KC.l (ecl.trans hcl) (Nat.le_refl _)) (fun q h μ4 ec _ _ _ _ => ?_) (fun y μ4 ec F4 hx4 => ?_))))))) (fun c => absurd c (n16)))))
        · rw [ecl, hcl] at ec; cases ec
        · rw [ecl, hcl] at ec
          cases ec
          exact ⟨rfl, h2 _ _ (g2 _ rfl) (F03.tr F4.g) hx4⟩
      | inr q =>
        rw [hcl] at g1 g2
        dsimp only at g1 g2
        have ck := cls_ok (q := q) b2 (ecl.trans hcl)
        refine z_istore5 dX2_law_41 (z_iload3 dX2_law_43 (z_bipush (v := 16) dX2_law_44 (by decide) (z_icmp_ne 57 dX2_law_46 (by decide) (fun _ => z_aload0 dX2_law_57 (z_getP fl_X2_75 dX2_law_58 rfl rfl (hX3.f2 4 (by decide)) (z_iload3 dX2_law_61 (z_aload0 dX2_law_62 (z_invV0 (md_X2_clause _) cv_X2_121 rfl dX2_law_63 rfl (Nat.le_of_ble_eq_true rfl) (Rm.gn (by decide) (by decide) (by omega) (by omega)) (X_clause (K := q.1 - skB T e a) hr3 d3 (KC.r (ecl.trans hcl) (Nat.le_refl _)) (fun q' h μ4 ec hr4 F4 d4 c4 => ?_) (fun y μ4 ec F4 hx4 => ?_))))))) (fun c => absurd c (n16)))))
        · rw [ecl, hcl] at ec
          cases ec
          have hX4 := hr4.1
          have r1 := skB_ge T e q.1
          have r2 : skB T e q.1 ≤ e := skE_le ck.2
          have F5 : FG μ4 (sP μ4 9 0 c (some (28, h))) := ⟨FX.rf.wP (Or.inl rfl), KP.sP (Or.inl (by omega))⟩
          have hr5 : RX T e q.1 (sP μ4 9 0 c (some (28, h))) := hr4.fg F5 hr4.2.2.1 hr4.2.2.2.1
          have F05 : FG (lw0 μ e) (sP μ4 9 0 c (some (28, h))) := F03.tr (F4.g.tr F5)
          have hrw5 : RWF (sP μ4 9 0 c (some (28, h))) (l ++ [q.2]) := by
            intro j hj
            rw [List.length_append, List.length_singleton] at hj
            by_cases hjc : j = c
            · refine ⟨h, by rw [gP_sP, if_pos ⟨rfl, rfl, hjc⟩], ?_⟩
              have : (l ++ [q.2]).getD j (0, 0, []) = q.2 := by rw [hjc, ← hlc]; simp
              rw [this]
              exact c4.kp F5.2
            · obtain ⟨h', g3, g4⟩ := hrw j (by omega)
              have hpe : gP μ4 9 0 j = gP μ2 9 0 j := by rw [F4.1.P 0 j (by unfold TKx; omega), hD3.P]
              refine ⟨h', by rw [gP_sP, if_neg (by omega), hpe]; exact g3, ?_⟩
              have : (l ++ [q.2]).getD j (0, 0, []) = l.getD j (0, 0, []) := by
                simp [List.getElem?_append, show j < l.length by omega]
              rw [this]
              exact g4.kp ((FK.s29 hD3).tr F4).2 |>.kp F5.2
          have hll : (l ++ [q.2]).length = c + 1 := by rw [List.length_append, List.length_singleton, hlc]
          refine z_aast dX2_law_66 rfl (by decide) rfl rfl rfl ⟨rfl, c16, Nat.le_of_ble_eq_true rfl⟩ (z_iinc3 dX2_law_67 (inc1 c) (z_aload0 dX2_law_70 (z_invV0 (md_X2_sign _) cv_X2_99 rfl dX2_law_71 rfl (Nat.le_of_ble_eq_true rfl) (Rm.gn (by decide) (by decide) (by omega) (by omega)) (X_sign hr5 (fun μ6 hr6 hD6 => ?_)))))
          have hX6 := hr6.1
          have h96 := hr6.2.2.1
          have F06 := F05.tr (FK.s29 hD6).g
          have d6 : gI μ6 2 0 10 = nI 0 := by rw [hD6.2 _ _ _ (by unfold S29; omega)]; exact d4
          have hrw6 := hrw5.kp (FK.s29 hD6).2 (fun k => hD6.P _ _ _)
          by_cases hend : skB T e q.1 = e
          · rw [if_pos hend] at g1
            have es : sgF T e (skB T e q.1) = -1 := by unfold sgF; rw [if_neg (by omega)]
            rw [es]
            refine z_bipush (v := 59) dX2_law_74 (by decide) (z_icmp_ne 83 dX2_law_76 (by decide) (fun _ => z_iconst (v := 0) dX2_law_83 (by decide) (z_istore4 dX2_law_84 (z_iload4 dX2_law_86 (z_if_eq 104 dX2_law_88 (by decide) (fun _ => z_aload0 dX2_law_104 (z_invV0 (md_X2_sign _) cv_X2_99 rfl dX2_law_105 rfl (Nat.le_of_ble_eq_true rfl) (Rm.gn (by decide) (by decide) (by omega) (by omega)) (X_sign hr6 (fun μ7 hr7 hD7 => ?_)))) (fun c => absurd (rfl) c))))) (fun c => absurd c ((by decide))))
            have eid : skB T e (skB T e q.1) = skB T e q.1 := skE_id q.1
            rw [eid] at hr7 ⊢
            rw [es]
            have hX7 := hr7.1
            refine z_iconst (v := (-1)) dX2_law_108 (by decide) (z_icmp_eq 120 dX2_law_109 (by decide) (fun _ => z_goto 32 dX2_law_120 (by decide) (z_iload4 dX2_law_32 (z_if_eq 123 dX2_law_34 (by decide) (fun _ => ?_) (fun c => absurd (rfl) c)))) (fun c => absurd (rfl) c))
            have := fin (l ++ [q.2]) μ7 (k + (q.1 - skB T e a)) (n + 3 * (q.1 - skB T e a)) (some (vi 0)) (some (vi (sgF T e (skB T e a)))) (by omega) (g1 _ rfl) (F06.tr (FK.s29 hD7).g) hX7 (hrw6.kp (FK.s29 hD7).2 (fun k => hD7.P _ _ _)) (by omega) (by omega)
            rw [hll] at this
            exact this
          · rw [if_neg hend] at g1 g2
            have hlt : skB T e q.1 < e := by omega
            have hb := (hr6.2.2.2.2.2 (skB T e q.1) (by omega)).2
            by_cases h59 : T (skB T e q.1) = 59
            · rw [if_pos h59] at g1 g2
              have es : sgF T e (skB T e q.1) = 59 := (sg_eq (x := 59) hb (by decide)).mpr ⟨hlt, h59⟩
              rw [es]
              refine z_bipush (v := 59) dX2_law_74 (by decide) (z_icmp_ne 83 dX2_law_76 (by decide) (fun c => absurd (rfl) c) (fun _ => z_iconst (v := 1) dX2_law_79 (by decide) (z_goto 84 dX2_law_80 (by decide) (z_istore4 dX2_law_84 (z_iload4 dX2_law_86 (z_if_eq 104 dX2_law_88 (by decide) (fun c => absurd c (n10)) (fun _ => z_aload0 dX2_law_91 (z_dupa dX2_law_92 (z_getIv fl_X2_93 dX2_law_93 rfl rfl (h96) (z_iconst (v := 1) dX2_law_96 (by decide) (z_iadd dX2_law_97 (z_putI fl_X2_93 dX2_law_98 rfl rfl ⟨rfl, rfl⟩ (z_goto 120 dX2_law_101 (by decide) (z_goto 32 dX2_law_120 (by decide) (z_iload4 dX2_law_32 (z_if_eq 123 dX2_law_34 (by decide) (fun c => absurd c (n10)) (fun _ => ?_)))))))))))))))))
              have F7 : FG μ6 (sI μ6 2 0 9 (nI (skB T e q.1) + 1)) := fk_9.g
              refine ih (c + 1) (skB T e q.1 + 1) (l ++ [q.2]) _ _ _ _ (by omega) hll (hr6.fg F7 (by rw [gI_sI, if_pos ⟨rfl, rfl, rfl⟩, nI_1]) (by omega)) (F06.tr F7) (by rw [gI_sI, if_neg (by simp)]; exact d6) (hrw6.kp F7.2 (fun _ => rfl)) (by omega) (by omega) (fun r hr => ?_) (fun x hx => ?_)
              · have := g1 (q.2 :: r) (by rw [hr])
                rw [this, List.append_assoc]
                rfl
              · exact g2 x (by rw [hx])
            · rw [if_neg h59] at g2
              have n59 : ¬ sgF T e (skB T e q.1) = 59 := fun z => h59 ((sg_eq (x := 59) hb (by decide)).mp z).2
              have nm1 : ¬ sgF T e (skB T e q.1) = -1 := sg_m1 hlt hb
              refine z_bipush (v := 59) dX2_law_74 (by decide) (z_icmp_ne 83 dX2_law_76 (by decide) (fun _ => z_iconst (v := 0) dX2_law_83 (by decide) (z_istore4 dX2_law_84 (z_iload4 dX2_law_86 (z_if_eq 104 dX2_law_88 (by decide) (fun _ => z_aload0 dX2_law_104 (z_invV0 (md_X2_sign _) cv_X2_99 rfl dX2_law_105 rfl (Nat.le_of_ble_eq_true rfl) (Rm.gn (by decide) (by decide) (by omega) (by omega)) (X_sign hr6 (fun μ7 hr7 hD7 => ?_)))) (fun c => absurd (rfl) c))))) (fun c => absurd c (n59)))
              have eid : skB T e (skB T e q.1) = skB T e q.1 := skE_id q.1
              rw [eid] at hr7 ⊢
              have hX7 := hr7.1
              have h97 := hr7.2.2.1
              refine z_iconst (v := (-1)) dX2_law_108 (by decide) (z_icmp_eq 120 dX2_law_109 (by decide) (fun c => absurd c (nm1)) (fun _ => z_aload0 dX2_law_112 (z_aload0 dX2_law_113 (z_getIv fl_X2_93 dX2_law_114 rfl rfl (h97) (z_invV1 (md_X2_fail _) cv_X2_114 rfl dX2_law_117 rfl (Nat.le_of_ble_eq_true rfl) (Rm.gn (by decide) (by decide) (by omega) (by omega)) (X_fail hX7 ?_))))))
              exact ⟨rfl, h2 _ _ (g2 _ rfl) (F06.tr ((FK.s29 hD7).tr fk_fl).g) (by rw [gI_sI, if_pos ⟨rfl, rfl, rfl⟩])⟩
        · rw [ecl, hcl] at ec; cases ec
  refine z_aload0 dX2_law_0 (z_iload1 dX2_law_1 (z_putI fl_X2_96 dX2_law_2 rfl rfl ⟨rfl, rfl⟩ (z_aload0 dX2_law_5 (z_iconst (v := 0) dX2_law_6 (by decide) (z_putI fl_X2_93 dX2_law_7 rfl rfl ⟨rfl, rfl⟩ (z_aload0 dX2_law_10 (z_iconst (v := 0) dX2_law_11 (by decide) (z_putI fl_X2_118 dX2_law_12 rfl rfl ⟨rfl, rfl⟩ (z_iconst (v := 0) dX2_law_15 (by decide) (z_istore3 dX2_law_16 (z_aload0 dX2_law_17 (z_invV0 (md_X2_sign _) cv_X2_99 rfl dX2_law_18 rfl (Nat.le_of_ble_eq_true rfl) (Rm.gn (by decide) (by decide) (by omega) (by omega)) (X_sign hr0 (fun μ1 hr1 hD1 => ?_))))))))))))))
  have F1 := (FK.s29 hD1).g
  have hX1 := hr1.1
  have d1 : gI μ1 2 0 10 = nI 0 := by rw [hD1.2 _ _ _ (by unfold S29; omega)]; exact d0
  have s2 : skB T e 0 ≤ e := skE_le (Nat.zero_le _)
  unfold lawP at fin loop
  by_cases hend : skB T e 0 = e
  · rw [if_pos hend] at fin
    have es : sgF T e (skB T e 0) = -1 := by unfold sgF; rw [if_neg (by omega)]
    rw [es]
    refine z_iconst (v := (-1)) dX2_law_21 (by decide) (z_icmp_eq 29 dX2_law_22 (by decide) (fun _ => z_iconst (v := 0) dX2_law_29 (by decide) (z_istore4 dX2_law_30 (z_iload4 dX2_law_32 (z_if_eq 123 dX2_law_34 (by decide) (fun _ => ?_) (fun c => absurd (rfl) c))))) (fun c => absurd (rfl) c))
    exact fin [] μ1 0 0 (some (vi 0)) none (by simp) rfl F1 hX1 (fun j hj => absurd hj (Nat.not_lt_zero _)) (by omega) (by omega)
  · rw [if_neg hend] at loop
    have nm1 : ¬ sgF T e (skB T e 0) = -1 := sg_m1 (by omega) (hr1.2.2.2.2.2 _ (by omega)).2
    refine z_iconst (v := (-1)) dX2_law_21 (by decide) (z_icmp_eq 29 dX2_law_22 (by decide) (fun c => absurd c (nm1)) (fun _ => z_iconst (v := 1) dX2_law_25 (by decide) (z_goto 30 dX2_law_26 (by decide) (z_istore4 dX2_law_30 (z_iload4 dX2_law_32 (z_if_eq 123 dX2_law_34 (by decide) (fun c => absurd c (n10)) (fun _ => ?_)))))))
    exact loop 16 0 (skB T e 0) [] μ1 0 0 none rfl rfl hr1 F1 d1 (fun j hj => absurd hj (Nat.not_lt_zero _)) (Nat.zero_le _) (Nat.zero_le _) (fun r hr => hr) (fun x hx => hx)
end R15
