/-! Model: conditions -/
section M16
variable {T : Nat → Int32} {e : Nat}
def PA (T : Nat → Int32) (e f : Nat) : Prop := ∀ (d a s D : Nat) (μ : Mem) (Q : Res → Mem → Prop), d ≤ 8 → 3 * (8 - d) + 9 ≤ D → 5 * (e - a) + 1 ≤ f → RD T e a μ → gI μ 50 0 7 = nI d → gI μ 50 0 20 = nI s → s ≤ a → PRES T e μ s d Q (prs T e f 0 d a) → Ct RX5 cX5_readAtom (4, some .boolean, [], false, rmm D 0 0) [vr 50 0] μ Q
def PB (T : Nat → Int32) (e f : Nat) : Prop := ∀ (d a s D : Nat) (μ : Mem) (Q : Res → Mem → Prop), d ≤ 8 → 3 * (8 - d) + 10 ≤ D → 5 * (e - a) + 2 ≤ f → RD T e a μ → gI μ 50 0 7 = nI d → gI μ 50 0 20 = nI s → s ≤ a → PRES T e μ s d Q (prs T e f 1 d a) → Ct RX5 cX5_readAllOf (1, some .boolean, [], false, rmm D 0 0) [vr 50 0] μ Q
def PC (T : Nat → Int32) (e f : Nat) : Prop := ∀ (d a s D : Nat) (μ : Mem) (Q : Res → Mem → Prop), d ≤ 8 → 3 * (8 - d) + 11 ≤ D → 5 * (e - a) + 3 ≤ f → RD T e a μ → gI μ 50 0 7 = nI d → gI μ 50 0 20 = nI s → s ≤ a → PRES T e μ s d Q (prs T e f 2 d a) → Ct RX5 cX5_readCond (1, some .boolean, [], false, rmm D 0 0) [vr 50 0] μ Q
theorem strB_44 : strB[44]? = some wNot := by decide +kernel
theorem strB_45 : strB[45]? = some wAnd := by decide +kernel
theorem strB_46 : strB[46]? = some wOr := by decide +kernel
theorem nSA {s : Nat} : ¬ SA s 50 0 5 ∧ ∀ j, ¬ SA s 53 0 j := ⟨fun q => by have := q.2; omega, fun j q => by have := q.2; omega⟩
theorem SQ7 {s : Nat} : SQ s 50 0 7 := ⟨rfl, Or.inl ⟨rfl, by omega⟩⟩
set_option maxRecDepth 4000 in
theorem PA_step {g : Nat} (ihA : PA T e g) (ihC : PC T e g) : PA T e (g + 1) := by
  intro d a s D μ Q hd hD hf hr h7 h20 hs h
  refine Ct.of (ls := [some (vr 50 0), none, none, none]) rfl fun Γ C ad => ?_
  have b1 := skB_ge T e a
  have b2 : skB T e a ≤ e := skE_le hr.2.2.1.2
  have w1 := wdE_ge T e (skB T e a)
  have w2 : wdE T e (skB T e a) ≤ e := skE_le b2
  have e400 := hr.2.1.2
  refine z_aload0 dX5_readAtom_0 (z_bipush (v := 40) dX5_readAtom_1 (by decide) (z_invV1 (md_X5_passesSign _) cv_X5_254 rfl dX5_readAtom_3 rfl (Nat.le_of_ble_eq_true rfl) (Rm.sy (by omega) (by decide) rfl rfl) (M_passesSign hr (fun μ1 hr1 hb1 hD1 => ?_))))
  have n7 := (k7 hD1).trans h7
  have n20 := (k20 hD1).trans h20
  rw [prs_0] at h
  by_cases hp : skB T e a < e ∧ T (skB T e a) = 40
  · rw [if_pos hp] at h hr1
    rw [decide_eq_true hp]
    by_cases h8 : d = 8
    · rw [if_pos h8] at h
      refine z_if_eq 56 dX5_readAtom_6 (by decide) (fun c => absurd c (n10)) (fun _ => z_aload0 dX5_readAtom_9 (z_getI fl_X5_258 dX5_readAtom_10 rfl rfl (z_bipush (v := 8) dX5_readAtom_13 (by decide) (z_icmp_ne 20 dX5_readAtom_15 (by decide) (fun c => absurd ((by rw [n7, h8]; rfl)) c) (fun _ => z_iconst (v := 0) dX5_readAtom_18 (by decide) (z_zreturn dX5_readAtom_19 rfl rfl (Nat.le_of_ble_eq_true rfl) (Nat.le_of_ble_eq_true rfl) ?_))))))
      exact h μ1 (hD1.mono fun _ _ _ q => SR_SQ q) hb1
    · rw [if_neg h8] at h
      have ne8 : ¬ gI μ1 50 0 7 = 8 := by rw [n7]; exact fun z => h8 ((nI_eq (b := 8) (by omega) (by decide)).mp z)
      have hr2 : RD T e (skB T e a + 1) (sI μ1 50 0 7 (gI μ1 50 0 7 + 1)) := hr1.dif (Dif.sI (S := SQ s) SQ7) (by rw [gI_sI, if_neg (by simp)]; exact hr1.2.2.1.1) (by omega) nSQ
      have m7 : gI (sI μ1 50 0 7 (gI μ1 50 0 7 + 1)) 50 0 7 = nI (d + 1) := by rw [gI_sI, if_pos ⟨rfl, rfl, rfl⟩, n7, nI_1]
      have m20 : gI (sI μ1 50 0 7 (gI μ1 50 0 7 + 1)) 50 0 20 = nI s := by rw [gI_sI, if_neg (by simp)]; exact n20
      have hD2 : Dif (SQ s) μ (sI μ1 50 0 7 (gI μ1 50 0 7 + 1)) := (hD1.mono fun _ _ _ q => SR_SQ q).tr (Dif.sI SQ7)
      cases hc : prs T e g 2 (d + 1) (skB T e a + 1) with
      | inl x =>
        rw [hc] at h
        refine z_if_eq 56 dX5_readAtom_6 (by decide) (fun c => absurd c (n10)) (fun _ => z_aload0 dX5_readAtom_9 (z_getI fl_X5_258 dX5_readAtom_10 rfl rfl (z_bipush (v := 8) dX5_readAtom_13 (by decide) (z_icmp_ne 20 dX5_readAtom_15 (by decide) (fun _ => z_aload0 dX5_readAtom_20 (z_dupa dX5_readAtom_21 (z_getI fl_X5_258 dX5_readAtom_22 rfl rfl (z_iconst (v := 1) dX5_readAtom_25 (by decide) (z_iadd dX5_readAtom_26 (z_putI fl_X5_258 dX5_readAtom_27 rfl rfl ⟨rfl, rfl⟩ (z_aload0 dX5_readAtom_30 (z_invV0 (md_X5_readCond _) cv_X5_261 rfl dX5_readAtom_31 rfl (Nat.le_of_ble_eq_true rfl) (Rm.sy (by omega) (by decide) rfl rfl) (ihC (d + 1) (skB T e a + 1) s (D - 1) _ _ (by omega) (by omega) (by omega) hr2 m7 m20 (by omega) (PRES.l hc fun μ3 hD3 hx3 => ?_)))))))))) (fun c => absurd c (ne8))))))
        refine z_if_ne 39 dX5_readAtom_34 (by decide) (fun c => absurd (rfl) c) (fun _ => z_iconst (v := 0) dX5_readAtom_37 (by decide) (z_zreturn dX5_readAtom_38 rfl rfl (Nat.le_of_ble_eq_true rfl) (Nat.le_of_ble_eq_true rfl) ?_))
        exact h μ3 (hD2.tr hD3) hx3
      | inr r =>
        rw [hc] at h
        dsimp only at h
        have rk := prs_ok g 2 (d + 1) _ r.1 r.2 (by omega) (by omega) hc
        refine z_if_eq 56 dX5_readAtom_6 (by decide) (fun c => absurd c (n10)) (fun _ => z_aload0 dX5_readAtom_9 (z_getI fl_X5_258 dX5_readAtom_10 rfl rfl (z_bipush (v := 8) dX5_readAtom_13 (by decide) (z_icmp_ne 20 dX5_readAtom_15 (by decide) (fun _ => z_aload0 dX5_readAtom_20 (z_dupa dX5_readAtom_21 (z_getI fl_X5_258 dX5_readAtom_22 rfl rfl (z_iconst (v := 1) dX5_readAtom_25 (by decide) (z_iadd dX5_readAtom_26 (z_putI fl_X5_258 dX5_readAtom_27 rfl rfl ⟨rfl, rfl⟩ (z_aload0 dX5_readAtom_30 (z_invV0 (md_X5_readCond _) cv_X5_261 rfl dX5_readAtom_31 rfl (Nat.le_of_ble_eq_true rfl) (Rm.sy (by omega) (by decide) rfl rfl) (ihC (d + 1) (skB T e a + 1) s (D - 1) _ _ (by omega) (by omega) (by omega) hr2 m7 m20 (by omega) (PRES.r hc fun μ3 hD3 hr3 h73 h203 hst3 => ?_)))))))))) (fun c => absurd c (ne8))))))
        have hr4 : RD T e r.1 (sI μ3 50 0 7 (gI μ3 50 0 7 - 1)) := hr3.dif (Dif.sI (S := SQ s) SQ7) (by rw [gI_sI, if_neg (by simp)]; exact hr3.2.2.1.1) hr3.2.2.1.2 nSQ
        have hD4 : Dif (SQ s) μ (sI μ3 50 0 7 (gI μ3 50 0 7 - 1)) := (hD2.tr hD3).tr (Dif.sI SQ7)
        refine z_if_ne 39 dX5_readAtom_34 (by decide) (fun _ => z_aload0 dX5_readAtom_39 (z_dupa dX5_readAtom_40 (z_getI fl_X5_258 dX5_readAtom_41 rfl rfl (z_iconst (v := 1) dX5_readAtom_44 (by decide) (z_isub dX5_readAtom_45 (z_putI fl_X5_258 dX5_readAtom_46 rfl rfl ⟨rfl, rfl⟩ (z_aload0 dX5_readAtom_49 (z_bipush (v := 41) dX5_readAtom_50 (by decide) (z_invV1 (md_X5_passesSign _) cv_X5_254 rfl dX5_readAtom_52 rfl (Nat.le_of_ble_eq_true rfl) (Rm.sy (by omega) (by decide) rfl rfl) (M_passesSign hr4 (fun μ5 hr5 hb5 hD5 => ?_))))))))))) (fun c => absurd c (n10))
        have g7 : gI μ5 50 0 7 = nI d := (k7 hD5).trans (by rw [gI_sI, if_pos ⟨rfl, rfl, rfl⟩, h73, nI_pred])
        have g20 : gI μ5 50 0 20 = nI (s + r.2.length) := (k20 hD5).trans (by rw [gI_sI, if_neg (by simp)]; exact h203)
        have hD05 := hD4.tr (hD5.mono fun _ _ _ q => SR_SQ (s := s) q)
        refine z_zreturn dX5_readAtom_55 rfl (bI_nar _) (Nat.le_of_ble_eq_true rfl) (Nat.le_of_ble_eq_true rfl) ?_
        by_cases q41 : skB T e r.1 < e ∧ T (skB T e r.1) = 41
        · rw [if_pos q41] at h hr5
          rw [decide_eq_true q41]
          refine h μ5 hD05 hr5 g7 g20 (fun j hj => ?_)
          have nn67 : ∀ p, p = 67 ∨ p = 68 ∨ p = 69 → gI μ5 p 0 (4800 + (s + j)) = gI μ3 p 0 (4800 + (s + j)) := fun p hp => by
            rw [hD5.2 _ _ _ (fun q => by have := q.1; omega), gI_sI, if_neg (fun q => by have := q.1; omega)]
          rw [nn67 67 (by omega), nn67 68 (by omega), nn67 69 (by omega)]
          exact hst3 j hj
        · rw [if_neg q41] at h
          rw [decide_eq_false q41]
          exact h μ5 hD05 hb5
  · rw [if_neg hp] at h hr1
    rw [decide_eq_false hp]
    refine z_if_eq 56 dX5_readAtom_6 (by decide) (fun _ => z_aload0 dX5_readAtom_56 (z_ldcSw 44 rfl dX5_readAtom_57 (z_invV1 (md_X5_passes _) cv_X5_267 rfl dX5_readAtom_60 rfl (Nat.le_of_ble_eq_true rfl) (Rm.sy (by omega) (by decide) rfl rfl) (M_passes strB_44 hr1 (fun μ2 hr2 hb2 hD2 => ?_))))) (fun c => absurd (rfl) c)
    have eid : skB T e (skB T e a) = skB T e a := skE_id a
    rw [eid] at hr2 hb2 ⊢
    have hD02 := hD1.tr hD2
    have m7 := (k7 hD02).trans h7
    have m20 := (k20 hD02).trans h20
    cases hw : isW T (skB T e a) (wdE T e (skB T e a)) wNot with
    | true =>
      rw [hw, if_pos rfl] at h hr2
      have l3 : wdE T e (skB T e a) - skB T e a = 3 := isW_len hw
      by_cases h8 : d = 8
      · rw [if_pos h8] at h
        refine z_if_eq 116 dX5_readAtom_63 (by decide) (fun c => absurd c (n10)) (fun _ => z_aload0 dX5_readAtom_66 (z_getI fl_X5_258 dX5_readAtom_67 rfl rfl (z_bipush (v := 8) dX5_readAtom_70 (by decide) (z_icmp_ne 77 dX5_readAtom_72 (by decide) (fun c => absurd ((by rw [m7, h8]; rfl)) c) (fun _ => z_iconst (v := 0) dX5_readAtom_75 (by decide) (z_zreturn dX5_readAtom_76 rfl rfl (Nat.le_of_ble_eq_true rfl) (Nat.le_of_ble_eq_true rfl) ?_))))))
        exact h μ2 (hD02.mono fun _ _ _ q => SR_SQ q) hb2
      · rw [if_neg h8] at h
        have ne8 : ¬ gI μ2 50 0 7 = 8 := by rw [m7]; exact fun z => h8 ((nI_eq (b := 8) (by omega) (by decide)).mp z)
        have hr3 : RD T e (wdE T e (skB T e a)) (sI μ2 50 0 7 (gI μ2 50 0 7 + 1)) := hr2.dif (Dif.sI (S := SQ s) SQ7) (by rw [gI_sI, if_neg (by simp)]; exact hr2.2.2.1.1) w2 nSQ
        have p7 : gI (sI μ2 50 0 7 (gI μ2 50 0 7 + 1)) 50 0 7 = nI (d + 1) := by rw [gI_sI, if_pos ⟨rfl, rfl, rfl⟩, m7, nI_1]
        have p20 : gI (sI μ2 50 0 7 (gI μ2 50 0 7 + 1)) 50 0 20 = nI s := by rw [gI_sI, if_neg (by simp)]; exact m20
        have hD3 : Dif (SQ s) μ (sI μ2 50 0 7 (gI μ2 50 0 7 + 1)) := (hD02.mono fun _ _ _ q => SR_SQ q).tr (Dif.sI SQ7)
        cases hc : prs T e g 0 (d + 1) (wdE T e (skB T e a)) with
        | inl x =>
          rw [hc] at h
          refine z_if_eq 116 dX5_readAtom_63 (by decide) (fun c => absurd c (n10)) (fun _ => z_aload0 dX5_readAtom_66 (z_getI fl_X5_258 dX5_readAtom_67 rfl rfl (z_bipush (v := 8) dX5_readAtom_70 (by decide) (z_icmp_ne 77 dX5_readAtom_72 (by decide) (fun _ => z_aload0 dX5_readAtom_77 (z_dupa dX5_readAtom_78 (z_getI fl_X5_258 dX5_readAtom_79 rfl rfl (z_iconst (v := 1) dX5_readAtom_82 (by decide) (z_iadd dX5_readAtom_83 (z_putI fl_X5_258 dX5_readAtom_84 rfl rfl ⟨rfl, rfl⟩ (z_aload0 dX5_readAtom_87 (z_invV0 (md_X5_readAtom _) cv_X5_270 rfl dX5_readAtom_88 rfl (Nat.le_of_ble_eq_true rfl) (Rm.sy (by omega) (by decide) rfl rfl) (ihA (d + 1) (wdE T e (skB T e a)) s (D - 1) _ _ (by omega) (by omega) (by omega) hr3 p7 p20 (by omega) (PRES.l hc fun μ4 hD4 hx4 => ?_)))))))))) (fun c => absurd c (ne8))))))
          refine z_if_ne 96 dX5_readAtom_91 (by decide) (fun c => absurd (rfl) c) (fun _ => z_iconst (v := 0) dX5_readAtom_94 (by decide) (z_zreturn dX5_readAtom_95 rfl rfl (Nat.le_of_ble_eq_true rfl) (Nat.le_of_ble_eq_true rfl) ?_))
          exact h μ4 (hD3.tr hD4) hx4
        | inr r =>
          rw [hc] at h
          dsimp only at h
          have rk := prs_ok g 0 (d + 1) _ r.1 r.2 (by omega) w2 hc
          refine z_if_eq 116 dX5_readAtom_63 (by decide) (fun c => absurd c (n10)) (fun _ => z_aload0 dX5_readAtom_66 (z_getI fl_X5_258 dX5_readAtom_67 rfl rfl (z_bipush (v := 8) dX5_readAtom_70 (by decide) (z_icmp_ne 77 dX5_readAtom_72 (by decide) (fun _ => z_aload0 dX5_readAtom_77 (z_dupa dX5_readAtom_78 (z_getI fl_X5_258 dX5_readAtom_79 rfl rfl (z_iconst (v := 1) dX5_readAtom_82 (by decide) (z_iadd dX5_readAtom_83 (z_putI fl_X5_258 dX5_readAtom_84 rfl rfl ⟨rfl, rfl⟩ (z_aload0 dX5_readAtom_87 (z_invV0 (md_X5_readAtom _) cv_X5_270 rfl dX5_readAtom_88 rfl (Nat.le_of_ble_eq_true rfl) (Rm.sy (by omega) (by decide) rfl rfl) (ihA (d + 1) (wdE T e (skB T e a)) s (D - 1) _ _ (by omega) (by omega) (by omega) hr3 p7 p20 (by omega) (PRES.r hc fun μ4 hD4 hr4 h74 h204 hst4 => ?_)))))))))) (fun c => absurd c (ne8))))))
          have hr5 : RD T e r.1 (sI μ4 50 0 7 (gI μ4 50 0 7 - 1)) := hr4.dif (Dif.sI (S := SQ s) SQ7) (by rw [gI_sI, if_neg (by simp)]; exact hr4.2.2.1.1) hr4.2.2.1.2 nSQ
          have hD5 : Dif (SQ s) μ (sI μ4 50 0 7 (gI μ4 50 0 7 - 1)) := (hD3.tr hD4).tr (Dif.sI SQ7)
          have q20 : gI (sI μ4 50 0 7 (gI μ4 50 0 7 - 1)) 50 0 20 = nI (s + r.2.length) := by rw [gI_sI, if_neg (by simp)]; exact h204
          refine z_if_ne 96 dX5_readAtom_91 (by decide) (fun _ => z_aload0 dX5_readAtom_96 (z_dupa dX5_readAtom_97 (z_getI fl_X5_258 dX5_readAtom_98 rfl rfl (z_iconst (v := 1) dX5_readAtom_101 (by decide) (z_isub dX5_readAtom_102 (z_putI fl_X5_258 dX5_readAtom_103 rfl rfl ⟨rfl, rfl⟩ (z_aload0 dX5_readAtom_106 (z_bipush (v := 100) dX5_readAtom_107 (by decide) (z_iconst (v := 0) dX5_readAtom_109 (by decide) (z_iconst (v := 0) dX5_readAtom_110 (by decide) (z_invV3 (md_X5_adds _) cv_X5_273 rfl dX5_readAtom_111 rfl (Nat.le_of_ble_eq_true rfl) (Rm.sy (by omega) (by decide) rfl rfl) (M_adds hr5.1 q20 (by omega) (fun μ6 g1 g2 g3 g4 hD6 => ?_))))))))))))) (fun c => absurd c (n10))
          refine z_iconst (v := 1) dX5_readAtom_114 (by decide) (z_zreturn dX5_readAtom_115 rfl rfl (Nat.le_of_ble_eq_true rfl) (Nat.le_of_ble_eq_true rfl) ?_)
          have n67 : ∀ p j, p = 67 ∨ p = 68 ∨ p = 69 → gI (sI μ4 50 0 7 (gI μ4 50 0 7 - 1)) p 0 j = gI μ4 p 0 j := fun p j hp => by rw [gI_sI, if_neg (fun q => by have := q.1; omega)]
          have hst5 : stp (sI μ4 50 0 7 (gI μ4 50 0 7 - 1)) s r.2 := fun j hj => by
            rw [n67 67 _ (by omega), n67 68 _ (by omega), n67 69 _ (by omega)]; exact hst4 j hj
          refine h μ6 (hD5.tr (hD6.mono fun _ _ _ q => SA_SQ (by omega) q)) (hr5.dif hD6 ((hD6.2 _ _ _ (fun q => by have := q.2; omega)).trans hr5.2.2.1.1) hr5.2.2.1.2 nSA) ?_ ?_ ?_
          · exact (hD6.2 _ _ _ (fun q => by have := q.2; omega)).trans (by rw [gI_sI, if_pos ⟨rfl, rfl, rfl⟩, h74, nI_pred])
          · rw [g1, List.length_append, List.length_singleton, Nat.add_assoc]
          · exact (hst5.keep (Nat.le_refl _) (hD6.mono fun _ _ _ q => SA_SQ (Nat.le_refl _) q)).app (stp.one g2 g3 g4)
    | false =>
      rw [hw, if_neg (by decide)] at h hr2
      refine z_if_eq 116 dX5_readAtom_63 (by decide) (fun _ => ?_) (fun c => absurd (rfl) c)
      refine M_fct (by omega) hr2 eid m7 m20 (by omega) ?_
      cases hfc : fctP T e (skB T e a) with
      | inl x => rw [hfc] at h; exact fun μ' q1 q2 => h μ' ((hD02.mono fun _ _ _ q => SR_SQ q).tr q1) q2
      | inr r => rw [hfc] at h; exact fun μ' q1 q2 q3 q4 q5 => h μ' ((hD02.mono fun _ _ _ q => SR_SQ q).tr q1) q2 q3 q4 q5
set_option maxRecDepth 4000 in
theorem PB_step {g : Nat} (ih : ∀ g', g' ≤ g → PA T e g') : PB T e (g + 1) := by
  intro d a s D μ Q hd hD hf hr h7 h20 hs h
  refine Ct.of (ls := [some (vr 50 0)]) rfl fun Γ C ad => ?_
  have e400 := hr.2.1.2
  have loop : ∀ g', g' ≤ g → ∀ (p : Nat) (st : List Sp3) (μ2 : Mem), RD T e p μ2 → Dif (SQ s) μ μ2 → gI μ2 50 0 7 = nI d → gI μ2 50 0 20 = nI (s + st.length) → stp μ2 s st → s + st.length ≤ p → 5 * (e - p) + 1 ≤ g' →
      PRES T e μ s d Q (match prs T e g' 3 d p with | .inl x => .inl x | .inr q' => .inr (q'.1, st ++ q'.2)) →
      Z RX5 cX5_readAllOf (1, some .boolean, [], false, rmm D 0 0) (Γ, C, μ, ad, Q) 0 0 μ2 9 [some (vr 50 0)] [] := by
    intro g'
    induction g' with
    | zero => intro _ p st μ2 _ _ _ _ _ _ hm _; omega
    | succ g2 ihg =>
      intro hg p st μ2 hr2 hD2 h72 h202 hst2 hsp hm hP
      have b1 := skB_ge T e p
      have b2 : skB T e p ≤ e := skE_le hr2.2.2.1.2
      have w1 := wdE_ge T e (skB T e p)
      have w2 : wdE T e (skB T e p) ≤ e := skE_le b2
      rw [prs_3] at hP
      refine z_aload0 dX5_readAllOf_9 (z_ldcSw 45 rfl dX5_readAllOf_10 (z_invV1 (md_X5_passes _) cv_X5_267 rfl dX5_readAllOf_13 rfl (Nat.le_of_ble_eq_true rfl) (Rm.sy (by omega) (by decide) rfl rfl) (M_passes strB_45 hr2 (fun μ3 hr3 hb3 hD3 => ?_))))
      have hD03 : Dif (SQ s) μ μ3 := hD2.tr (hD3.mono fun _ _ _ q => SR_SQ q)
      have n7 := (k7 hD3).trans h72
      have n20 := (k20 hD3).trans h202
      have hst3 := hst2.keep (Nat.le_refl _) (hD3.mono fun _ _ _ q => SR_SQ q)
      cases hw : isW T (skB T e p) (wdE T e (skB T e p)) wAnd with
      | false =>
        rw [hw, if_neg (by decide)] at hP hr3
        dsimp only at hP
        rw [List.append_nil] at hP
        refine z_if_eq 39 dX5_readAllOf_16 (by decide) (fun _ => z_iconst (v := 1) dX5_readAllOf_39 (by decide) (z_zreturn dX5_readAllOf_40 rfl rfl (Nat.le_of_ble_eq_true rfl) (Nat.le_of_ble_eq_true rfl) ?_)) (fun c => absurd (rfl) c)
        exact hP μ3 hD03 hr3 n7 n20 hst3
      | true =>
        rw [hw, if_pos rfl] at hP hr3
        have l3 : wdE T e (skB T e p) - skB T e p = (wAnd).length := isW_len hw
        have l3' : (wAnd).length = 3 := rfl
        cases hc : prs T e g2 0 d (wdE T e (skB T e p)) with
        | inl x =>
          rw [hc] at hP
          refine z_if_eq 39 dX5_readAllOf_16 (by decide) (fun c => absurd c (n10)) (fun _ => z_aload0 dX5_readAllOf_19 (z_invV0 (md_X5_readAtom _) cv_X5_270 rfl dX5_readAllOf_20 rfl (Nat.le_of_ble_eq_true rfl) (Rm.sy (by omega) (by decide) rfl rfl) (ih g2 (by omega) d (wdE T e (skB T e p)) (s + st.length) (D - 1) _ _ hd (by omega) (by omega) hr3 n7 n20 (by omega) (PRES.l hc fun μ4 hD4 hx4 => ?_))))
          refine z_if_ne 28 dX5_readAllOf_23 (by decide) (fun c => absurd (rfl) c) (fun _ => z_iconst (v := 0) dX5_readAllOf_26 (by decide) (z_zreturn dX5_readAllOf_27 rfl rfl (Nat.le_of_ble_eq_true rfl) (Nat.le_of_ble_eq_true rfl) ?_))
          exact hP μ4 (hD03.tr (hD4.mono fun _ _ _ q => SQ_SQ (by omega) q)) hx4
        | inr r =>
          rw [hc] at hP
          dsimp only at hP
          have rk := prs_ok g2 0 d _ r.1 r.2 (by omega) w2 hc
          have rk1 := rk.1 (by omega)
          refine z_if_eq 39 dX5_readAllOf_16 (by decide) (fun c => absurd c (n10)) (fun _ => z_aload0 dX5_readAllOf_19 (z_invV0 (md_X5_readAtom _) cv_X5_270 rfl dX5_readAllOf_20 rfl (Nat.le_of_ble_eq_true rfl) (Rm.sy (by omega) (by decide) rfl rfl) (ih g2 (by omega) d (wdE T e (skB T e p)) (s + st.length) (D - 1) _ _ hd (by omega) (by omega) hr3 n7 n20 (by omega) (PRES.r hc fun μ4 hD4 hr4 h74 h204 hst4 => ?_))))
          refine z_if_ne 28 dX5_readAllOf_23 (by decide) (fun _ => z_aload0 dX5_readAllOf_28 (z_bipush (v := 101) dX5_readAllOf_29 (by decide) (z_iconst (v := 0) dX5_readAllOf_31 (by decide) (z_iconst (v := 0) dX5_readAllOf_32 (by decide) (z_invV3 (md_X5_adds _) cv_X5_273 rfl dX5_readAllOf_33 rfl (Nat.le_of_ble_eq_true rfl) (Rm.sy (by omega) (by decide) rfl rfl) (M_adds hr4.1 h204 (by omega) (fun μ5 g1 g2' g3 g4 hD5 => ?_))))))) (fun c => absurd c (n10))
          refine z_goto 9 dX5_readAllOf_36 (by decide) ?_
          have hD5' : Dif (SQ (s + st.length + r.2.length)) μ4 μ5 := hD5.mono fun _ _ _ q => SA_SQ (Nat.le_refl _) q
          have hst5 : stp μ5 s (st ++ (r.2 ++ [(101, 0, 0)])) := ((hst3.keep (Nat.le_refl _) hD4).keep (by omega) hD5').app ((hst4.keep (Nat.le_refl _) hD5').app (stp.one g2' g3 g4))
          have el : s + (st ++ (r.2 ++ [((101 : Int32), (0 : Int32), (0 : Int32))])).length = s + st.length + r.2.length + 1 := by rw [List.length_append, List.length_append, List.length_singleton]; omega
          refine ihg (by omega) r.1 (st ++ (r.2 ++ [(101, 0, 0)])) μ5 (hr4.dif hD5 ((hD5.2 _ _ _ (fun q => by have := q.2; omega)).trans hr4.2.2.1.1) hr4.2.2.1.2 nSA) ((hD03.tr (hD4.mono fun _ _ _ q => SQ_SQ (by omega) q)).tr (hD5'.mono fun _ _ _ q => SQ_SQ (by omega) q)) ((hD5.2 _ _ _ (fun q => by have := q.2; omega)).trans h74) (by rw [el]; exact g1) hst5 (by rw [el]; omega) (by omega) ?_
          cases hc2 : prs T e g2 3 d r.1 with
          | inl x => rw [hc2] at hP; exact hP
          | inr q' =>
            rw [hc2] at hP
            have ea : st ++ (r.2 ++ (101, 0, 0) :: q'.2) = st ++ (r.2 ++ [(101, 0, 0)]) ++ q'.2 := by simp
            dsimp only at hP ⊢
            rw [ea] at hP
            exact hP
  rw [prs_1] at h
  have ae := hr.2.2.1.2
  cases hc : prs T e g 0 d a with
  | inl x =>
    rw [hc] at h
    refine z_aload0 dX5_readAllOf_0 (z_invV0 (md_X5_readAtom _) cv_X5_270 rfl dX5_readAllOf_1 rfl (Nat.le_of_ble_eq_true rfl) (Rm.sy (by omega) (by decide) rfl rfl) (ih g (Nat.le_refl _) d a s (D - 1) _ _ hd (by omega) (by omega) hr h7 h20 hs (PRES.l hc fun μ4 hD4 hx4 => ?_)))
    refine z_if_ne 9 dX5_readAllOf_4 (by decide) (fun c => absurd (rfl) c) (fun _ => z_iconst (v := 0) dX5_readAllOf_7 (by decide) (z_zreturn dX5_readAllOf_8 rfl rfl (Nat.le_of_ble_eq_true rfl) (Nat.le_of_ble_eq_true rfl) ?_))
    exact h μ4 hD4 hx4
  | inr r =>
    rw [hc] at h
    have rk := prs_ok g 0 d _ r.1 r.2 (by omega) ae hc
    have rk1 := rk.1 (by omega)
    refine z_aload0 dX5_readAllOf_0 (z_invV0 (md_X5_readAtom _) cv_X5_270 rfl dX5_readAllOf_1 rfl (Nat.le_of_ble_eq_true rfl) (Rm.sy (by omega) (by decide) rfl rfl) (ih g (Nat.le_refl _) d a s (D - 1) _ _ hd (by omega) (by omega) hr h7 h20 hs (PRES.r hc fun μ4 hD4 hr4 h74 h204 hst4 => ?_)))
    refine z_if_ne 9 dX5_readAllOf_4 (by decide) (fun _ => ?_) (fun c => absurd c (n10))
    exact loop g (Nat.le_refl _) r.1 r.2 μ4 hr4 hD4 h74 h204 hst4 (by omega) (by omega) h
set_option maxRecDepth 4000 in
theorem PC_step {g : Nat} (ih : ∀ g', g' ≤ g → PB T e g') : PC T e (g + 1) := by
  intro d a s D μ Q hd hD hf hr h7 h20 hs h
  refine Ct.of (ls := [some (vr 50 0)]) rfl fun Γ C ad => ?_
  have e400 := hr.2.1.2
  have loop : ∀ g', g' ≤ g → ∀ (p : Nat) (st : List Sp3) (μ2 : Mem), RD T e p μ2 → Dif (SQ s) μ μ2 → gI μ2 50 0 7 = nI d → gI μ2 50 0 20 = nI (s + st.length) → stp μ2 s st → s + st.length ≤ p → 5 * (e - p) + 1 ≤ g' →
      PRES T e μ s d Q (match prs T e g' 4 d p with | .inl x => .inl x | .inr q' => .inr (q'.1, st ++ q'.2)) →
      Z RX5 cX5_readCond (1, some .boolean, [], false, rmm D 0 0) (Γ, C, μ, ad, Q) 0 0 μ2 9 [some (vr 50 0)] [] := by
    intro g'
    induction g' with
    | zero => intro _ p st μ2 _ _ _ _ _ _ hm _; omega
    | succ g2 ihg =>
      intro hg p st μ2 hr2 hD2 h72 h202 hst2 hsp hm hP
      have b1 := skB_ge T e p
      have b2 : skB T e p ≤ e := skE_le hr2.2.2.1.2
      have w1 := wdE_ge T e (skB T e p)
      have w2 : wdE T e (skB T e p) ≤ e := skE_le b2
      rw [prs_4] at hP
      refine z_aload0 dX5_readCond_9 (z_ldcSw 46 rfl dX5_readCond_10 (z_invV1 (md_X5_passes _) cv_X5_267 rfl dX5_readCond_13 rfl (Nat.le_of_ble_eq_true rfl) (Rm.sy (by omega) (by decide) rfl rfl) (M_passes strB_46 hr2 (fun μ3 hr3 hb3 hD3 => ?_))))
      have hD03 : Dif (SQ s) μ μ3 := hD2.tr (hD3.mono fun _ _ _ q => SR_SQ q)
      have n7 := (k7 hD3).trans h72
      have n20 := (k20 hD3).trans h202
      have hst3 := hst2.keep (Nat.le_refl _) (hD3.mono fun _ _ _ q => SR_SQ q)
      cases hw : isW T (skB T e p) (wdE T e (skB T e p)) wOr with
      | false =>
        rw [hw, if_neg (by decide)] at hP hr3
        dsimp only at hP
        rw [List.append_nil] at hP
        refine z_if_eq 39 dX5_readCond_16 (by decide) (fun _ => z_iconst (v := 1) dX5_readCond_39 (by decide) (z_zreturn dX5_readCond_40 rfl rfl (Nat.le_of_ble_eq_true rfl) (Nat.le_of_ble_eq_true rfl) ?_)) (fun c => absurd (rfl) c)
        exact hP μ3 hD03 hr3 n7 n20 hst3
      | true =>
        rw [hw, if_pos rfl] at hP hr3
        have l3 : wdE T e (skB T e p) - skB T e p = (wOr).length := isW_len hw
        have l3' : (wOr).length = 2 := rfl
        cases hc : prs T e g2 1 d (wdE T e (skB T e p)) with
        | inl x =>
          rw [hc] at hP
          refine z_if_eq 39 dX5_readCond_16 (by decide) (fun c => absurd c (n10)) (fun _ => z_aload0 dX5_readCond_19 (z_invV0 (md_X5_readAllOf _) cv_X5_286 rfl dX5_readCond_20 rfl (Nat.le_of_ble_eq_true rfl) (Rm.sy (by omega) (by decide) rfl rfl) (ih g2 (by omega) d (wdE T e (skB T e p)) (s + st.length) (D - 1) _ _ hd (by omega) (by omega) hr3 n7 n20 (by omega) (PRES.l hc fun μ4 hD4 hx4 => ?_))))
          refine z_if_ne 28 dX5_readCond_23 (by decide) (fun c => absurd (rfl) c) (fun _ => z_iconst (v := 0) dX5_readCond_26 (by decide) (z_zreturn dX5_readCond_27 rfl rfl (Nat.le_of_ble_eq_true rfl) (Nat.le_of_ble_eq_true rfl) ?_))
          exact hP μ4 (hD03.tr (hD4.mono fun _ _ _ q => SQ_SQ (by omega) q)) hx4
        | inr r =>
          rw [hc] at hP
          dsimp only at hP
          have rk := prs_ok g2 1 d _ r.1 r.2 (by omega) w2 hc
          have rk1 := rk.1 (by omega)
          refine z_if_eq 39 dX5_readCond_16 (by decide) (fun c => absurd c (n10)) (fun _ => z_aload0 dX5_readCond_19 (z_invV0 (md_X5_readAllOf _) cv_X5_286 rfl dX5_readCond_20 rfl (Nat.le_of_ble_eq_true rfl) (Rm.sy (by omega) (by decide) rfl rfl) (ih g2 (by omega) d (wdE T e (skB T e p)) (s + st.length) (D - 1) _ _ hd (by omega) (by omega) hr3 n7 n20 (by omega) (PRES.r hc fun μ4 hD4 hr4 h74 h204 hst4 => ?_))))
          refine z_if_ne 28 dX5_readCond_23 (by decide) (fun _ => z_aload0 dX5_readCond_28 (z_bipush (v := 102) dX5_readCond_29 (by decide) (z_iconst (v := 0) dX5_readCond_31 (by decide) (z_iconst (v := 0) dX5_readCond_32 (by decide) (z_invV3 (md_X5_adds _) cv_X5_273 rfl dX5_readCond_33 rfl (Nat.le_of_ble_eq_true rfl) (Rm.sy (by omega) (by decide) rfl rfl) (M_adds hr4.1 h204 (by omega) (fun μ5 g1 g2' g3 g4 hD5 => ?_))))))) (fun c => absurd c (n10))
          refine z_goto 9 dX5_readCond_36 (by decide) ?_
          have hD5' : Dif (SQ (s + st.length + r.2.length)) μ4 μ5 := hD5.mono fun _ _ _ q => SA_SQ (Nat.le_refl _) q
          have hst5 : stp μ5 s (st ++ (r.2 ++ [(102, 0, 0)])) := ((hst3.keep (Nat.le_refl _) hD4).keep (by omega) hD5').app ((hst4.keep (Nat.le_refl _) hD5').app (stp.one g2' g3 g4))
          have el : s + (st ++ (r.2 ++ [((102 : Int32), (0 : Int32), (0 : Int32))])).length = s + st.length + r.2.length + 1 := by rw [List.length_append, List.length_append, List.length_singleton]; omega
          refine ihg (by omega) r.1 (st ++ (r.2 ++ [(102, 0, 0)])) μ5 (hr4.dif hD5 ((hD5.2 _ _ _ (fun q => by have := q.2; omega)).trans hr4.2.2.1.1) hr4.2.2.1.2 nSA) ((hD03.tr (hD4.mono fun _ _ _ q => SQ_SQ (by omega) q)).tr (hD5'.mono fun _ _ _ q => SQ_SQ (by omega) q)) ((hD5.2 _ _ _ (fun q => by have := q.2; omega)).trans h74) (by rw [el]; exact g1) hst5 (by rw [el]; omega) (by omega) ?_
          cases hc2 : prs T e g2 4 d r.1 with
          | inl x => rw [hc2] at hP; exact hP
          | inr q' =>
            rw [hc2] at hP
            have ea : st ++ (r.2 ++ (102, 0, 0) :: q'.2) = st ++ (r.2 ++ [(102, 0, 0)]) ++ q'.2 := by simp
            dsimp only at hP ⊢
            rw [ea] at hP
            exact hP
  rw [prs_2] at h
  have ae := hr.2.2.1.2
  cases hc : prs T e g 1 d a with
  | inl x =>
    rw [hc] at h
    refine z_aload0 dX5_readCond_0 (z_invV0 (md_X5_readAllOf _) cv_X5_286 rfl dX5_readCond_1 rfl (Nat.le_of_ble_eq_true rfl) (Rm.sy (by omega) (by decide) rfl rfl) (ih g (Nat.le_refl _) d a s (D - 1) _ _ hd (by omega) (by omega) hr h7 h20 hs (PRES.l hc fun μ4 hD4 hx4 => ?_)))
    refine z_if_ne 9 dX5_readCond_4 (by decide) (fun c => absurd (rfl) c) (fun _ => z_iconst (v := 0) dX5_readCond_7 (by decide) (z_zreturn dX5_readCond_8 rfl rfl (Nat.le_of_ble_eq_true rfl) (Nat.le_of_ble_eq_true rfl) ?_))
    exact h μ4 hD4 hx4
  | inr r =>
    rw [hc] at h
    have rk := prs_ok g 1 d _ r.1 r.2 (by omega) ae hc
    have rk1 := rk.1 (by omega)
    refine z_aload0 dX5_readCond_0 (z_invV0 (md_X5_readAllOf _) cv_X5_286 rfl dX5_readCond_1 rfl (Nat.le_of_ble_eq_true rfl) (Rm.sy (by omega) (by decide) rfl rfl) (ih g (Nat.le_refl _) d a s (D - 1) _ _ hd (by omega) (by omega) hr h7 h20 hs (PRES.r hc fun μ4 hD4 hr4 h74 h204 hst4 => ?_)))
    refine z_if_ne 9 dX5_readCond_4 (by decide) (fun _ => ?_) (fun c => absurd c (n10))
    exact loop g (Nat.le_refl _) r.1 r.2 μ4 hr4 hD4 h74 h204 hst4 (by omega) (by omega) h
theorem M_parse : ∀ f, (∀ g, g ≤ f → PA T e g) ∧ (∀ g, g ≤ f → PB T e g) ∧ (∀ g, g ≤ f → PC T e g)
  | 0 => by
    refine ⟨fun g hg => ?_, fun g hg => ?_, fun g hg => ?_⟩
    · intro d a s D μ Q _ _ hm; omega
    · intro d a s D μ Q _ _ hm; omega
    · intro d a s D μ Q _ _ hm; omega
  | f + 1 => by
    obtain ⟨h1, h2, h3⟩ := M_parse f
    have a1 : ∀ g, g ≤ f + 1 → PA T e g := fun g hg => by
      rcases Nat.lt_or_ge g (f + 1) with q | q
      · exact h1 g (by omega)
      · rw [show g = f + 1 by omega]; exact PA_step (h1 f (Nat.le_refl _)) (h3 f (Nat.le_refl _))
    have a2 : ∀ g, g ≤ f + 1 → PB T e g := fun g hg => by
      rcases Nat.lt_or_ge g (f + 1) with q | q
      · exact h2 g (by omega)
      · rw [show g = f + 1 by omega]; exact PB_step h1
    refine ⟨a1, a2, fun g hg => ?_⟩
    rcases Nat.lt_or_ge g (f + 1) with q | q
    · exact h3 g (by omega)
    · rw [show g = f + 1 by omega]; exact PC_step h2
end M16
