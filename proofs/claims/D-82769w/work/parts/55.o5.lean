/-! the Office: persons -/
section O5
variable {μ μ' : Mem} {σ : Sg} {Λ : Lws} {Q : Res → Mem → Prop}
theorem X_psInit {j p i : Nat} {a : Int32} {f : Bool} (h : Q rV (sP (sI (sI μ 23 j 0 a) 23 j 1 (bI f)) 23 j 2 (some (p, i)))) : Ct RX12 cX12_init (4, none, [], true, rmm 1 0 0) [vr 23 j, vi a, vi (bI f), vr p i] μ Q := by
  refine Ct.of (ls := [some (vr 23 j), some (vi a), some (vi (bI f)), some (vr p i)]) rfl fun Γ C ad => ?_
  refine z_aload0 dX12_init_0 (z_objInit co_X12_3 dX12_init_1 (by decide) (by decide) (z_aload0 dX12_init_4 (z_iload1 dX12_init_5 (z_putFI ff_X12_9 rfl dX12_init_6 rfl rfl ⟨rfl, rfl⟩ (z_aload0 dX12_init_9 (z_iload2 dX12_init_10 (z_putFI ff_X12_15 rfl dX12_init_11 rfl rfl (bI_put _) (z_aload0 dX12_init_14 (z_aload3 dX12_init_15 (z_putFP ff_X12_19 rfl dX12_init_16 rfl rfl (z_return dX12_init_19 rfl (Nat.le_of_ble_eq_true rfl) (Nat.le_of_ble_eq_true rfl) ?_)))))))))))
  exact h
def f5 (μ : Mem) (p j : Nat) (a1 a2 a3 a4 a5 : Int32) : Mem := sI (sI (sI (sI (sI (nw μ p 5) p j 0 a1) p j 1 a2) p j 2 a3) p j 3 a4) p j 4 a5
theorem f5_at {p j : Nat} {a1 a2 a3 a4 a5 : Int32} {k : Nat} (hk : k < 5) : gI (f5 μ p j a1 a2 a3 a4 a5) p j k = fiv a1 a2 a3 a4 a5 k := by
  unfold f5 fiv
  simp only [gI_sI]
  match k, hk with
  | 0, _ => simp
  | 1, _ => simp
  | 2, _ => simp
  | 3, _ => simp
  | 4, _ => simp
  | k + 5, h => omega
theorem O_person {b : Int32} {f : Bool} {a1 a2 a3 a4 a5 : Int32} (hI : TX σ Λ μ) (hC : CT σ) (h36 : ∀ p, tn (σ 34 1) ≤ p → σ 36 p = 0) (h : ∀ r μ', TX (pPerson σ b f a1 a2 a3 a4 a5).1 Λ μ' → Fx μ μ' → XR [38, 39] (pPerson σ b f a1 a2 a3 a4 a5).2.1 (rI (pPerson σ b f a1 a2 a3 a4 a5).2.2) r → Q r μ') : Ct RX1 cX1_person (11, some .int, [], false, rmm 8 4 21) [vr 1 0, vi b, vi (bI f), vi a1, vi a2, vi a3, vi a4, vi a5] μ Q := by
  refine Ct.of (ls := [some (vr 1 0), some (vi b), some (vi (bI f)), some (vi a1), some (vi a2), some (vi a3), some (vi a4), some (vi a5), none, none, none]) rfl fun Γ C ad => ?_
  have hX := hI.1
  have hR := hI.2.1
  have np := hC.np
  unfold pPerson at h
  let good : Nat → Bool := fun k => decide (-40000 ≤ b ∧ b ≤ σ 7 0) && (List.range k).all fun j => decide (fc (fiv a1 a2 a3 a4 a5 j))
  have g5 : good 5 = true ↔ ((-40000 ≤ b ∧ b ≤ σ 7 0) ∧ fc a1 ∧ fc a2 ∧ fc a3 ∧ fc a4 ∧ fc a5) := by
    show (decide (-40000 ≤ b ∧ b ≤ σ 7 0) && (decide (fc a1) && (decide (fc a2) && (decide (fc a3) && (decide (fc a4) && (decide (fc a5) && true)))))) = true ↔ _
    simp only [Bool.and_eq_true, decide_eq_true_eq, and_true]
  have gs : ∀ k, good (k + 1) = (good k && decide (fc (fiv a1 a2 a3 a4 a5 k))) := fun k => by
    show (_ && (List.range (k + 1)).all _) = ((_ && (List.range k).all _) && _)
    rw [List.range_succ, List.all_append, List.all_cons, List.all_nil, Bool.and_true, Bool.and_assoc]
  have scan : ∀ (p : Nat) (kd' : p = 24 ∨ p = 43) (μ1 : Mem), μ1 = f5 μ p (gC μ p) a1 a2 a3 a4 a5 → (Z RX1 cX1_person (11, some .int, [], false, rmm 8 4 21) (Γ, C, μ, ad, Q) 1 5 μ1 85 [some (vr 1 0), some (vi b), some (vi (bI f)), some (vi a1), some (vi a2), some (vi a3), some (vi a4), some (vi a5), some (vr p (gC μ p)), some (vi (bI (good 5))), some (vi (nI 5))] []) → ∀ k, k ≤ 5 → Z RX1 cX1_person (11, some .int, [], false, rmm 8 4 21) (Γ, C, μ, ad, Q) 1 5 μ1 47 [some (vr 1 0), some (vi b), some (vi (bI f)), some (vi a1), some (vi a2), some (vi a3), some (vi a4), some (vi a5), some (vr p (gC μ p)), some (vi (bI (good k))), some (vi (nI k))] [] := by
    intro p hp μ1 e1 kk
    refine loopN (P := fun k => Z RX1 cX1_person (11, some .int, [], false, rmm 8 4 21) (Γ, C, μ, ad, Q) 1 5 μ1 47 [some (vr 1 0), some (vi b), some (vi (bI f)), some (vi a1), some (vi a2), some (vi a3), some (vi a4), some (vi a5), some (vr p (gC μ p)), some (vi (bI (good k))), some (vi (nI k))] []) 5 ?_ ?_
    · refine z_iload10 dX1_person_47 (z_iconst (v := 5) dX1_person_49 (by decide) (z_icmp_ge 85 dX1_person_50 (by decide) (fun _ => ?_) (fun c => absurd (lpt (n := 5) rfl) c)))
      exact kk
    · intro k hk ih
      rw [gs] at ih
      have ev : gI μ1 p (gC μ p) k = fiv a1 a2 a3 a4 a5 k := by rw [e1]; exact f5_at hk
      have j77 : ∀ v : Bool, v = (good k && decide (fc (fiv a1 a2 a3 a4 a5 k))) → Z RX1 cX1_person (11, some .int, [], false, rmm 8 4 21) (Γ, C, μ, ad, Q) 1 5 μ1 77 [some (vr 1 0), some (vi b), some (vi (bI f)), some (vi a1), some (vi a2), some (vi a3), some (vi a4), some (vi a5), some (vr p (gC μ p)), some (vi (bI (good k))), some (vi (nI k))] [vi (bI v)] := by
        intro v hv
        subst hv
        refine z_istore9 dX1_person_77 (z_iinc10 dX1_person_79 (inc1 k) (z_goto 47 dX1_person_82 (by decide) ?_))
        exact ih
      refine z_iload10 dX1_person_47 (z_iconst (v := 5) dX1_person_49 (by decide) (z_icmp_ge 85 dX1_person_50 (by decide) (fun c => absurd c (lpf (n := 5) rfl hk (by decide))) (fun _ => z_iload9 dX1_person_53 (z_if_eq 76 dX1_person_55 (by decide) (fun c_55 => ?_) (fun c_55 => ?_)))))
      · refine z_iconst (v := 0) dX1_person_76 (by decide) ?_
        exact j77 false (by rw [bI_0.mp c_55]; rfl)
      · rcases hp with rfl | rfl
        · refine z_aload8 dX1_person_58 (z_iload10 dX1_person_60 (z_ialdv dX1_person_62 rfl ⟨rfl, (show k < 5 from hk), Nat.le_of_ble_eq_true rfl⟩ (ev) (z_iconst (v := 0) dX1_person_63 (by decide) (z_bipush (v := 99) dX1_person_64 (by decide) (z_invS3 (md_X1_isIn _) cs_X1_114 dX1_person_66 rfl (Nat.le_of_ble_eq_true rfl) (Rm.ofB rfl) (X_isIn (z_if_eq 76 dX1_person_69 (by decide) (fun c_69 => ?_) (fun c_69 => ?_))))))))
          · refine z_iconst (v := 0) dX1_person_76 (by decide) ?_
            exact j77 false (by rw [bI_n0 c_55, bI_0.mp c_69]; rfl)
          · refine z_iconst (v := 1) dX1_person_72 (by decide) (z_goto 77 dX1_person_73 (by decide) ?_)
            exact j77 true (by rw [bI_n0 c_55, bI_n0 c_69]; rfl)
        · refine z_aload8 dX1_person_58 (z_iload10 dX1_person_60 (z_ialdv dX1_person_62 rfl ⟨rfl, (show k < 5 from hk), Nat.le_of_ble_eq_true rfl⟩ (ev) (z_iconst (v := 0) dX1_person_63 (by decide) (z_bipush (v := 99) dX1_person_64 (by decide) (z_invS3 (md_X1_isIn _) cs_X1_114 dX1_person_66 rfl (Nat.le_of_ble_eq_true rfl) (Rm.ofB rfl) (X_isIn (z_if_eq 76 dX1_person_69 (by decide) (fun c_69 => ?_) (fun c_69 => ?_))))))))
          · refine z_iconst (v := 0) dX1_person_76 (by decide) ?_
            exact j77 false (by rw [bI_n0 c_55, bI_0.mp c_69]; rfl)
          · refine z_iconst (v := 1) dX1_person_72 (by decide) (z_goto 77 dX1_person_73 (by decide) ?_)
            exact j77 true (by rw [bI_n0 c_55, bI_n0 c_69]; rfl)
  have start : ∀ (p : Nat) (hp : p = 24 ∨ p = 43) (g : Bool), g = good 0 → (∀ k, k ≤ 5 → Z RX1 cX1_person (11, some .int, [], false, rmm 8 4 21) (Γ, C, μ, ad, Q) 1 5 (f5 μ p (gC μ p) a1 a2 a3 a4 a5) 47 [some (vr 1 0), some (vi b), some (vi (bI f)), some (vi a1), some (vi a2), some (vi a3), some (vi a4), some (vi a5), some (vr p (gC μ p)), some (vi (bI (good k))), some (vi (nI k))] []) → Z RX1 cX1_person (11, some .int, [], false, rmm 8 4 21) (Γ, C, μ, ad, Q) (0) (0) (μ) 0 [some (vr 1 0), some (vi b), some (vi (bI f)), some (vi a1), some (vi a2), some (vi a3), some (vi a4), some (vi a5), none, none, none] [] := by
    intro p hp g eg kk
    have k0 := kk 0 (Nat.zero_le _)
    have e0 : good 0 = decide (-40000 ≤ b ∧ b ≤ σ 7 0) := by show (_ && true) = _; rw [Bool.and_true]
    rw [e0] at k0
    rcases hp with rfl | rfl
    · have g70 : gI (f5 μ 24 (gC μ 24) a1 a2 a3 a4 a5) 4 0 1 = σ 7 0 := by
        unfold f5
        simp only [gI_sI, gI_nw]
        exact hR.wd 0 (by decide)
      refine z_iconst (v := 5) dX1_person_0 (by decide) (z_newI 24 dX1_person_1 rfl rfl (leB rfl) (leB rfl) (leB rfl) (z_dupa dX1_person_3 (z_iconst (v := 0) dX1_person_4 (by decide) (z_iload3 dX1_person_5 (z_iast dX1_person_6 rfl ⟨rfl, (show 0 < 5 by decide), Nat.le_of_ble_eq_true rfl⟩ (z_dupa dX1_person_7 (z_iconst (v := 1) dX1_person_8 (by decide) (z_iload4 dX1_person_9 (z_iast dX1_person_11 rfl ⟨rfl, (show 1 < 5 by decide), Nat.le_of_ble_eq_true rfl⟩ (z_dupa dX1_person_12 (z_iconst (v := 2) dX1_person_13 (by decide) (z_iload5 dX1_person_14 (z_iast dX1_person_16 rfl ⟨rfl, (show 2 < 5 by decide), Nat.le_of_ble_eq_true rfl⟩ (z_dupa dX1_person_17 (z_iconst (v := 3) dX1_person_18 (by decide) (z_iload6 dX1_person_19 (z_iast dX1_person_21 rfl ⟨rfl, (show 3 < 5 by decide), Nat.le_of_ble_eq_true rfl⟩ (z_dupa dX1_person_22 (z_iconst (v := 4) dX1_person_23 (by decide) (z_iload7 dX1_person_24 (z_iast dX1_person_26 rfl ⟨rfl, (show 4 < 5 by decide), Nat.le_of_ble_eq_true rfl⟩ (z_astore8 dX1_person_27 (z_iload1 dX1_person_29 (z_ldcI q674 dX1_person_30 (z_aload0 dX1_person_32 (z_getP fl_X1_42 dX1_person_33 rfl rfl (hX.f1 5 (by decide)) (z_getIv fl_X1_140 dX1_person_36 rfl rfl (g70) (z_invS3 (md_X1_isIn _) cs_X1_114 dX1_person_39 rfl (Nat.le_of_ble_eq_true rfl) (Rm.ofB rfl) (X_isIn (z_istore9 dX1_person_42 (z_iconst (v := 0) dX1_person_44 (by decide) (z_istore10 dX1_person_45 ?_))))))))))))))))))))))))))))))))
      exact k0
    · have g70 : gI (f5 μ 43 (gC μ 43) a1 a2 a3 a4 a5) 4 0 1 = σ 7 0 := by
        unfold f5
        simp only [gI_sI, gI_nw]
        exact hR.wd 0 (by decide)
      refine z_iconst (v := 5) dX1_person_0 (by decide) (z_newI 43 dX1_person_1 rfl rfl (leB rfl) (leB rfl) (leB rfl) (z_dupa dX1_person_3 (z_iconst (v := 0) dX1_person_4 (by decide) (z_iload3 dX1_person_5 (z_iast dX1_person_6 rfl ⟨rfl, (show 0 < 5 by decide), Nat.le_of_ble_eq_true rfl⟩ (z_dupa dX1_person_7 (z_iconst (v := 1) dX1_person_8 (by decide) (z_iload4 dX1_person_9 (z_iast dX1_person_11 rfl ⟨rfl, (show 1 < 5 by decide), Nat.le_of_ble_eq_true rfl⟩ (z_dupa dX1_person_12 (z_iconst (v := 2) dX1_person_13 (by decide) (z_iload5 dX1_person_14 (z_iast dX1_person_16 rfl ⟨rfl, (show 2 < 5 by decide), Nat.le_of_ble_eq_true rfl⟩ (z_dupa dX1_person_17 (z_iconst (v := 3) dX1_person_18 (by decide) (z_iload6 dX1_person_19 (z_iast dX1_person_21 rfl ⟨rfl, (show 3 < 5 by decide), Nat.le_of_ble_eq_true rfl⟩ (z_dupa dX1_person_22 (z_iconst (v := 4) dX1_person_23 (by decide) (z_iload7 dX1_person_24 (z_iast dX1_person_26 rfl ⟨rfl, (show 4 < 5 by decide), Nat.le_of_ble_eq_true rfl⟩ (z_astore8 dX1_person_27 (z_iload1 dX1_person_29 (z_ldcI q674 dX1_person_30 (z_aload0 dX1_person_32 (z_getP fl_X1_42 dX1_person_33 rfl rfl (hX.f1 5 (by decide)) (z_getIv fl_X1_140 dX1_person_36 rfl rfl (g70) (z_invS3 (md_X1_isIn _) cs_X1_114 dX1_person_39 rfl (Nat.le_of_ble_eq_true rfl) (Rm.ofB rfl) (X_isIn (z_istore9 dX1_person_42 (z_iconst (v := 0) dX1_person_44 (by decide) (z_istore10 dX1_person_45 ?_))))))))))))))))))))))))))))))))
      exact k0
  have F43 : FX (fun p _ _ => p = 43) (fun p => p = 43) μ (f5 μ 43 (gC μ 43) a1 a2 a3 a4 a5) := (((((FX.wN (S := fun p _ _ => p = 43) (T := fun p => p = 43) FX.rf rfl (fun _ => rfl) (fun _ => rfl)).wI rfl).wI rfl).wI rfl).wI rfl).wI rfl
  have T43 : TX σ Λ (f5 μ 43 (gC μ 43) a1 a2 a3 a4 a5) := hI.sc F43 (fun p i k q => by unfold SC; omega) (fun p q => by rw [q]; rfl) (KP.fx F43 (fun p i k hp => by omega) (fun p hp => by omega))
  have X43 : Fx μ (f5 μ 43 (gC μ 43) a1 a2 a3 a4 a5) := (Fx.rf.nw).sI.sI.sI.sI.sI
  by_cases h1 : (-40000 ≤ b ∧ b ≤ σ 7 0) ∧ fc a1 ∧ fc a2 ∧ fc a3 ∧ fc a4 ∧ fc a5
  · rw [if_neg (nn h1)] at h
    have e5 : good 5 = true := g5.mpr h1
    by_cases h2 : σ 34 1 = 80
    · rw [if_pos h2] at h
      refine start 43 (Or.inr rfl) _ rfl (scan 43 (Or.inr rfl) _ rfl ?_)
      rw [e5]
      refine z_iload9 dX1_person_85 (z_invS1 (md_X1_must _) cs_X1_143 dX1_person_87 rfl (Nat.le_of_ble_eq_true rfl) (Rm.ofB rfl) (X_mustT (z_aload0 dX1_person_90 (z_getIv fl_X1_111 dX1_person_91 rfl rfl (T43.2.1.t 1 (by decide)) (z_bipush (v := 80) dX1_person_94 (by decide) (z_icmp_ge 103 dX1_person_96 (by decide) (fun _ => z_iconst (v := 0) dX1_person_103 (by decide) (z_invS1 (md_X1_mayBe _) cs_X1_158 dX1_person_104 rfl (Nat.le_of_ble_eq_true rfl) (Rm.ofB rfl) (X_mayBeF ?_))) (fun c => absurd ((by rw [h2]; decide)) c)))))))
      exact fun μ' i q => ⟨rfl, h _ _ (T43.exc q) (X43.tr (Fx.exc q)) XR.e2⟩
    · rw [if_neg h2] at h
      obtain ⟨l, hl, el⟩ : ∃ l, l = tn (σ 34 1) ∧ σ 34 1 = nI l := ⟨_, rfl, hC.2.1.1⟩
      have hl80 : l < 80 := by
        have : l ≠ 80 := fun q => h2 (by rw [el, q]; rfl)
        omega
      have hlt : ¬ (80 : Int32) ≤ σ 34 1 := by rw [el]; exact nI_ge (a := l) (b := 80) hl80 (by decide)
      have c23 : gC μ 23 = l := by rw [hl]; exact hX.2.2.2.2.2.1.2.1
      have c24 : gC μ 24 = l := by rw [hl]; exact hX.2.2.2.2.2.1.2.2
      rw [← hl] at h
      refine start 24 (Or.inl rfl) _ rfl (scan 24 (Or.inl rfl) _ rfl ?_)
      rw [e5, c24]
      have R1 := hR.wN 24 5
      rw [c24] at R1
      have R2 := (((((R1.set (by decide) 26 (5 * l + 0) a1 (sX_col (by decide))).set (by decide) 26 (5 * l + 1) a2 (sX_col (by decide))).set (by decide) 26 (5 * l + 2) a3 (sX_col (by decide))).set (by decide) 26 (5 * l + 3) a4 (sX_col (by decide))).set (by decide) 26 (5 * l + 4) a5 (sX_col (by decide)))
      have xk : ∀ k, k < 5 → xl 0 26 (5 * l + k) = (24, l, k) := fun k hk => by
        show (24, (5 * l + k) / 5, (5 * l + k) % 5) = _
        rw [show (5 * l + k) / 5 = l by omega, show (5 * l + k) % 5 = k by omega]
      rw [xk 0 (by decide), xk 1 (by decide), xk 2 (by decide), xk 3 (by decide), xk 4 (by decide)] at R2
      have R3 : RepX 0 (up2 (up2 (up2 (up2 (up2 (zap 0 24 l σ) 26 (5 * l + 0) a1) 26 (5 * l + 1) a2) 26 (5 * l + 2) a3) 26 (5 * l + 3) a4) 26 (5 * l + 4) a5) (f5 μ 24 l a1 a2 a3 a4 a5) := R2
      have g34 : gI (f5 μ 24 l a1 a2 a3 a4 a5) 1 0 14 = σ 34 1 := by
        unfold f5
        simp only [gI_sI, gI_nw]
        exact hR.t 1 (by decide)
      have C1 : gC (f5 μ 24 l a1 a2 a3 a4 a5) 23 = l := by
        show gC (nw μ 24 5) 23 = l
        rw [gC_nw, if_neg (by decide)]; exact c23
      have R4 := R3.wN 23 0
      rw [C1] at R4
      have R5 := ((R4.set (by decide) 24 l b (sX_col (by decide))).set (by decide) 25 l (bI f) (sX_col (by decide)))
      have hXf : ∀ k, k < 13 → gP (f5 μ 24 l a1 a2 a3 a4 a5) 1 0 k = some (x1L.getD k (0, 0)) := fun k hk => hX.f1 k hk
      have g34' : ∀ j v1 v2 x3 x4, gI (sP (sP (sI (sI (nw (f5 μ 24 l a1 a2 a3 a4 a5) 23 0) 23 j 0 v1) 23 j 1 v2) 23 j 2 x3) 12 0 l x4) 1 0 14 = σ 34 1 := by
        intro j v1 v2 x3 x4
        rw [gI_sP, gI_sP]
        simp only [gI_sI, gI_nw]
        exact g34
      refine z_iload9 dX1_person_85 (z_invS1 (md_X1_must _) cs_X1_143 dX1_person_87 rfl (Nat.le_of_ble_eq_true rfl) (Rm.ofB rfl) (X_mustT (z_aload0 dX1_person_90 (z_getIv fl_X1_111 dX1_person_91 rfl rfl (g34) (z_bipush (v := 80) dX1_person_94 (by decide) (z_icmp_ge 103 dX1_person_96 (by decide) (fun c => absurd c (hlt)) (fun _ => z_iconst (v := 1) dX1_person_99 (by decide) (z_goto 104 dX1_person_100 (by decide) (z_invS1 (md_X1_mayBe _) cs_X1_158 dX1_person_104 rfl (Nat.le_of_ble_eq_true rfl) (Rm.ofB rfl) (X_mayBeT (z_aload0 dX1_person_107 (z_getP fl_X1_24 dX1_person_108 rfl rfl (hX.f1 2 (by decide)) (z_aload0 dX1_person_111 (z_getIv fl_X1_111 dX1_person_112 rfl rfl (g34) (z_new 23 nw_X1_22 dX1_person_115 rfl (by decide) rfl (Nat.le_of_ble_eq_true rfl) (Nat.le_of_ble_eq_true rfl) (z_dupa dX1_person_118 (z_iload1 dX1_person_119 (z_iload2 dX1_person_120 (z_aload8 dX1_person_121 (z_invI3 (md_X12_init _) ci_X1_198 dX1_person_123 rfl (Nat.le_of_ble_eq_true rfl) (Rm.ofB rfl) (X_psInit (p := 24) (z_aast dX1_person_126 rfl (by decide) rfl rfl rfl ⟨el, hl80, Nat.le_of_ble_eq_true rfl⟩ (z_aload0 dX1_person_127 (z_dupa dX1_person_128 (z_getIv fl_X1_111 dX1_person_129 rfl rfl (g34' _ _ _ _ _) (z_iconst (v := 1) dX1_person_132 (by decide) (z_iadd dX1_person_133 (z_putI fl_X1_111 dX1_person_134 rfl rfl ⟨rfl, rfl⟩ (z_aload0 dX1_person_137 (z_getIv fl_X1_111 dX1_person_138 rfl rfl (by rw [gI_sI, if_pos ⟨rfl, rfl, rfl⟩]) (z_iconst (v := 1) dX1_person_141 (by decide) (z_isub dX1_person_142 (z_ireturn dX1_person_143 rfl (Nat.le_of_ble_eq_true rfl) (Nat.le_of_ble_eq_true rfl) ?_)))))))))))))))))))))))))))))))))
      rw [C1]
      have kp : KP μ (sI (sP (sP (sI (sI (nw (f5 μ 24 l a1 a2 a3 a4 a5) 23 0) 23 l 0 b) 23 l 1 (bI f)) 23 l 2 (some (24, l))) 12 0 l (some (23, l))) 1 0 14 (σ 34 1 + 1)) := by
        refine KP.tr (μ' := f5 μ 24 l a1 a2 a3 a4 a5) ?_ ((((((KP.nw (fun _ => rfl)).tr (KP.sI (Or.inl (by omega)))).tr (KP.sI (Or.inl (by omega)))).tr (KP.sP (Or.inl (by omega)))).tr (KP.sP (Or.inl (by omega)))).tr (KP.sI (Or.inl (by omega))))
        exact ((((((KP.nw (fun _ => rfl)).tr (KP.sI (Or.inl (by omega)))).tr (KP.sI (Or.inl (by omega)))).tr (KP.sI (Or.inl (by omega)))).tr (KP.sI (Or.inl (by omega)))).tr (KP.sI (Or.inl (by omega))))
      have eans : σ 34 1 + 1 - 1 = σ 34 1 := Int32.add_sub_cancel _ _
      rw [eans]
      have gp : ∀ p i k, gP (sI (sP (sP (sI (sI (nw (f5 μ 24 l a1 a2 a3 a4 a5) 23 0) 23 l 0 b) 23 l 1 (bI f)) 23 l 2 (some (24, l))) 12 0 l (some (23, l))) 1 0 14 (σ 34 1 + 1)) p i k = if p = 12 ∧ i = 0 ∧ k = l then some (23, l) else if p = 23 ∧ i = l ∧ k = 2 then some (24, l) else if p = 23 ∧ i = l then none else if p = 24 ∧ i = l then none else gP μ p i k := by
        intro p i k
        rw [gP_sI, gP_sP, gP_sP]
        show (if p = 12 ∧ i = 0 ∧ k = l then _ else if p = 23 ∧ i = l ∧ k = 2 then _ else gP (nw (f5 μ 24 l a1 a2 a3 a4 a5) 23 0) p i k) = _
        rw [gP_nw, C1]
        show (if p = 12 ∧ i = 0 ∧ k = l then _ else if p = 23 ∧ i = l ∧ k = 2 then _ else if p = 23 ∧ i = l then none else gP (nw μ 24 5) p i k) = _
        rw [gP_nw, c24]
      have gc : ∀ p, gC (sI (sP (sP (sI (sI (nw (f5 μ 24 l a1 a2 a3 a4 a5) 23 0) 23 l 0 b) 23 l 1 (bI f)) 23 l 2 (some (24, l))) 12 0 l (some (23, l))) 1 0 14 (σ 34 1 + 1)) p = if p = 23 then l + 1 else if p = 24 then l + 1 else gC μ p := by
        intro p
        show gC (nw (f5 μ 24 l a1 a2 a3 a4 a5) 23 0) p = _
        rw [gC_nw, C1]
        show (if p = 23 then _ else gC (nw μ 24 5) p) = _
        rw [gC_nw, c24]
      refine h _ _ ⟨?_, ?_, ?_, ?_⟩ ?_ XR.ok
      · show XP (tn (σ 34 1 + 1)) (tn (σ 34 2)) (tn (σ 34 3)) (tn (σ 7 4)) (tn (σ 34 0)) _
        rw [show tn (σ 34 1 + 1) = l + 1 by rw [el, nI_1, tn_nI (by omega)]]
        refine hX.ps (fun p i k _ h1 h2 h3 => ?_) (fun p _ h1 h2 h3 => ?_) ⟨fun k hk => ⟨?_, ?_⟩, ?_, ?_⟩
        · rw [gp, if_neg (by omega), if_neg (by omega), if_neg (by omega), if_neg (by omega)]
        · rw [gc, if_neg h2, if_neg h3]
        · rw [gp]
          by_cases q : k = l
          · rw [if_pos ⟨rfl, rfl, q⟩, q]
          · rw [if_neg (by omega), if_neg (by omega), if_neg (by omega), if_neg (by omega)]
            exact hX.pe (by omega)
        · rw [gp]
          by_cases q : k = l
          · rw [if_neg (by omega), if_pos ⟨rfl, q, rfl⟩, q]
          · rw [if_neg (by omega), if_neg (by omega), if_neg (by omega), if_neg (by omega)]
            exact hX.fa (by omega)
        · rw [gc, if_pos rfl]
        · rw [gc, if_neg (by decide), if_pos rfl]
      · have R6 := R5.set (by decide) 34 1 (σ 34 1 + 1) (show (1 : Nat) < 16 by decide)
        refine RepX.cgs (show RepX 0 _ (sI (sP (sP (sI (sI (nw (f5 μ 24 l a1 a2 a3 a4 a5) 23 0) 23 l 0 b) 23 l 1 (bI f)) 23 l 2 (some (24, l))) 12 0 l (some (23, l))) 1 0 14 (σ 34 1 + 1)) from R6) fun c i hs => ?_
        have hz := fun (τ : Sg) => zap_of (σ := τ) (P := 23) (j := l) (cols := [24, 25]) (by decide) (by decide) (by decide) hs
        have hz2 := zap_24 (σ := σ) (j := l) hs
        simp only [List.mem_cons, List.not_mem_nil, or_false] at hz
        dsimp only
        simp only [up2_eq, hz, hz2]
        by_cases c26 : c = 26
        · subst c26
          simp only [true_and, Nat.reduceEqDiff, false_and, or_self, if_false]
          by_cases q : i / 5 = l
          · have : i = 5 * l + 0 ∨ i = 5 * l + 1 ∨ i = 5 * l + 2 ∨ i = 5 * l + 3 ∨ i = 5 * l + 4 := by omega
            rcases this with rfl | rfl | rfl | rfl | rfl <;> simp
          · rw [if_neg q]
        · simp only [c26, false_and, if_false]
          grind
      · exact hI.2.2.1.kp kp rfl (fun _ => rfl) (fun l' _ => by rw [gp, if_neg (by omega), if_neg (by omega), if_neg (by omega), if_neg (by omega)])
      · intro p hp
        have hp' : p < l + 1 := by
          have e : tn (σ 34 1 + 1) = l + 1 := by rw [el, nI_1, tn_nI (by omega)]
          have : p < tn (σ 34 1 + 1) := hp
          omega
        by_cases q : p = l
        · refine ⟨fun _ => ?_, fun z => absurd (show σ 36 p = 0 from h36 p (by omega)) z⟩
          rw [gp, if_neg (by omega), if_neg (by omega), if_pos ⟨rfl, q⟩]
        · have hp2 : p < tn (σ 34 1) := by omega
          obtain ⟨n1, n2⟩ := hI.2.2.2 p hp2
          have e23 : gP (sI (sP (sP (sI (sI (nw (f5 μ 24 l a1 a2 a3 a4 a5) 23 0) 23 l 0 b) 23 l 1 (bI f)) 23 l 2 (some (24, l))) 12 0 l (some (23, l))) 1 0 14 (σ 34 1 + 1)) 23 p 3 = gP μ 23 p 3 := by rw [gp, if_neg (by omega), if_neg (by omega), if_neg (by omega), if_neg (by omega)]
          rw [e23]
          refine ⟨n1, fun z => ?_⟩
          obtain ⟨j, g1, g2, g3⟩ := n2 z
          have a := kp 25 (by omega)
          exact ⟨j, by omega, g2, fun k hk => by rw [((a.2 j g1).2 k).1]; exact g3 k hk⟩
      · exact ((((Fx.tr (μ' := f5 μ 24 l a1 a2 a3 a4 a5) ((Fx.rf.nw).sI.sI.sI.sI.sI) (Fx.rf.nw)).sI.sI).sP).sP).sI
  · rw [if_pos h1] at h
    have e5 : good 5 = false := by
      cases q : good 5 with
      | false => rfl
      | true => exact absurd (g5.mp q) h1
    refine start 43 (Or.inr rfl) _ rfl (scan 43 (Or.inr rfl) _ rfl ?_)
    rw [e5]
    refine z_iload9 dX1_person_85 (z_invS1 (md_X1_must _) cs_X1_143 dX1_person_87 rfl (Nat.le_of_ble_eq_true rfl) (Rm.ofB rfl) (X_mustF ?_))
    exact fun μ' i q => ⟨rfl, h _ _ (T43.exc q) (X43.tr (Fx.exc q)) XR.e1⟩
end O5
