/-! the Reader: conditions, an atom -/
section R11
variable {μ μ' : Mem} {T : Nat → Int32} {e : Nat}
theorem isW_40 {b p : Nat} (h : T b = 40) : isW T b p wNot = false := by
  unfold isW
  rw [eqS_no (k := 0) (by rw [Nat.add_zero, h]; decide) _ (by decide), Bool.and_false]
theorem ev_not {st : List Sp3} {F : (Nat → Int32) → Bool} (h : ∀ φ stk, evL φ st stk = some (F φ :: stk)) : ∀ φ stk, evL φ (st ++ [(100, 0, 0)]) stk = some ((!F φ) :: stk) := by
  intro φ stk
  rw [evL_app, h]
  rfl
theorem ev_pair {st st' : List Sp3} {F G : (Nat → Int32) → Bool} {x : Int32} {b : Bool} (hx : (x = 101 ∧ b = true) ∨ (x = 102 ∧ b = false)) (h : ∀ φ stk, evL φ st stk = some (F φ :: stk)) (h' : ∀ φ stk, evL φ st' stk = some (G φ :: stk)) :
    ∀ φ stk, evL φ (st ++ (st' ++ [(x, 0, 0)])) stk = some ((if bI b = 0 then F φ || G φ else F φ && G φ) :: stk) := by
  intro φ stk
  rw [evL_app, h]
  show evL φ (st' ++ [(x, 0, 0)]) (F φ :: stk) = _
  rw [evL_app, h']
  rcases hx with ⟨rfl, rfl⟩ | ⟨rfl, rfl⟩ <;> rfl
/-- a tree of conditions does not hold a cell that is not made yet -/
theorem CdX.av {p j : Nat} (hp : p = 30 ∨ p = 31) (hn : gP μ p j 0 = none) (hC : ∀ q, gC μ' q = gC μ q) (hI : ∀ q i k, ¬ (q = p ∧ i = j) → gI μ' q i k = gI μ q i k ∧ gP μ' q i k = gP μ q i k) : ∀ {d : Nat} {h : Nat × Nat} {f : (Nat → Int32) → Bool}, CdX μ d h f → CdX μ' d h f
  | 0, _, _, q => q
  | d + 1, h, f, q => by
    unfold CdX at q ⊢
    rcases q with ⟨e, l, j', hj, g, hf⟩ | ⟨e, l, h', f', g, hc, hf⟩ | ⟨e, l, h1, h2, f1, f2, g1, g2, c1, c2, hf⟩
    · have a : ∀ k, gI μ' 29 h.2 k = gI μ 29 h.2 k := fun k => (hI 29 h.2 k (by omega)).1
      exact Or.inl ⟨e, by rw [hC]; exact l, j', hj, by rw [a]; exact g, by rw [a, a]; exact hf⟩
    · have a := hI 30 h.2 0 (fun q => by rw [← q.1, ← q.2, g] at hn; cases hn)
      exact Or.inr (Or.inl ⟨e, by rw [hC]; exact l, h', f', by rw [a.2]; exact g, CdX.av hp hn hC hI hc, hf⟩)
    · have n : ¬ (31 = p ∧ h.2 = j) := fun q => by rw [← q.1, ← q.2, g1] at hn; cases hn
      exact Or.inr (Or.inr ⟨e, by rw [hC]; exact l, h1, h2, f1, f2, by rw [(hI _ _ _ n).2]; exact g1, by rw [(hI _ _ _ n).2]; exact g2, CdX.av hp hn hC hI c1, CdX.av hp hn hC hI c2, by rw [(hI _ _ _ n).1]; exact hf⟩)
theorem nt_cd {d j : Nat} {h : Nat × Nat} {f : (Nat → Int32) → Bool} (hj : j < gC μ 30) (hn : gP μ 30 j 0 = none) (c : CdX μ d h f) : CdX (sP μ 30 j 0 (some h)) (d + 1) (30, j) (fun φ => !f φ) := by
  have c' : CdX (sP μ 30 j 0 (some h)) d h f := CdX.av (p := 30) (j := j) (by omega) hn (fun _ => rfl) (fun q i k z => ⟨rfl, by rw [gP_sP, if_neg (fun y => z ⟨y.1, y.2.1⟩)]⟩) c
  unfold CdX
  exact Or.inr (Or.inl ⟨rfl, hj, h, f, by rw [gP_sP, if_pos ⟨rfl, rfl, rfl⟩], c', fun _ => rfl⟩)
def prM (μ : Mem) (j : Nat) (h1 h2 : Nat × Nat) (b : Bool) : Mem := sI (sP (sP μ 31 j 0 (some h1)) 31 j 1 (some h2)) 31 j 2 (bI b)
theorem pr_cd {d j : Nat} {h1 h2 : Nat × Nat} {f1 f2 : (Nat → Int32) → Bool} {b : Bool} (hj : j < gC μ 31) (hn : gP μ 31 j 0 = none) (c1 : CdX μ d h1 f1) (c2 : CdX μ d h2 f2) : CdX (prM μ j h1 h2 b) (d + 1) (31, j) (fun φ => if bI b = 0 then f1 φ || f2 φ else f1 φ && f2 φ) := by
  have c' : ∀ {d h f}, CdX μ d h f → CdX (prM μ j h1 h2 b) d h f := fun c => CdX.av (p := 31) (j := j) (by omega) hn (fun _ => rfl) (fun q i k z => ⟨by unfold prM; rw [gI_sI, if_neg (fun y => z ⟨y.1, y.2.1⟩)]; rfl, by
    show gP (sP (sP μ 31 j 0 (some h1)) 31 j 1 (some h2)) q i k = _
    rw [gP_sP, if_neg (fun y => z ⟨y.1, y.2.1⟩), gP_sP, if_neg (fun y => z ⟨y.1, y.2.1⟩)]⟩) c
  have e2 : gI (prM μ j h1 h2 b) 31 j 2 = bI b := by unfold prM; rw [gI_sI, if_pos ⟨rfl, rfl, rfl⟩]
  unfold CdX
  refine Or.inr (Or.inr ⟨rfl, hj, h1, h2, f1, f2, ?_, ?_, c' c1, c' c2, fun φ => ?_⟩)
  · show gP (sP (sP μ 31 j 0 (some h1)) 31 j 1 (some h2)) 31 j 0 = _
    rw [gP_sP, if_neg (by simp), gP_sP, if_pos ⟨rfl, rfl, rfl⟩]
  · show gP (sP (sP μ 31 j 0 (some h1)) 31 j 1 (some h2)) 31 j 1 = _
    rw [gP_sP, if_pos ⟨rfl, rfl, rfl⟩]
  · show _ = if gI (prM μ j h1 h2 b) 31 j 2 = 0 then _ else _
    rw [e2]
theorem fk_10 {x : Int32} : FK μ (sI μ 2 0 10 x) := ⟨FX.rf.wI (by unfold SKx; omega), KP.sI (Or.inl (by omega))⟩
theorem fk_9 {x : Int32} : FK μ (sI μ 2 0 9 x) := ⟨FX.rf.wI (by unfold SKx; omega), KP.sI (Or.inl (by omega))⟩
theorem fl_0 {p : Nat} (h1 : 28 ≤ p) (h2 : p ≤ 31) : fl p = 0 := by
  have : ∀ p, p ≤ 31 → 28 ≤ p → fl p = 0 := by decide
  exact this p h2 h1
theorem fk_nw {p : Nat} (h1 : 28 ≤ p) (h2 : p ≤ 31) : FK μ (nw μ p 0) := ⟨FX.rf.wN (by unfold TKx; omega) (fun k => by unfold SKx; omega) (fun _ => (fl_0 h1 h2).symm), KP.nw (fun _ => (fl_0 h1 h2).symm)⟩
theorem fk_fl {x : Int32} : FK μ (sI μ 3 0 6 x) := FK.s3 (Dif.sI (Or.inr ⟨rfl, rfl, rfl⟩))
set_option maxRecDepth 4000 in
theorem QcA_step {g : Nat} (ihA : QcA T e g) (ihC : QcC T e g) : QcA T e (g + 1) := by
  intro d a D K μ Q hd hD hf hr h10 hK h
  refine Ct.of (ls := [some (vr 2 0), none, none, none, none]) rfl fun Γ C ad => ?_
  have b1 := skB_ge T e a
  have b2 : skB T e a ≤ e := skE_le hr.2.2.2.1
  have w1 := wdE_ge T e (skB T e a)
  have w2 : wdE T e (skB T e a) ≤ e := skE_le b2
  have e400 := hr.2.2.2.2.1
  have eid : skB T e (skB T e a) = skB T e a := skE_id a
  have hX := hr.1
  rw [prs_0] at h hK
  refine z_aload0 dX2_atom_0 (z_invV0 (md_X2_sign _) cv_X2_99 rfl dX2_atom_1 rfl (Nat.le_of_ble_eq_true rfl) (Rm.gn (by omega) (by decide) (by omega) (by omega)) (X_sign hr (fun μ1 hr1 hD1 => ?_)))
  have h91 := hr1.2.2.1
  have hX1 := hr1.1
  refine z_istore1 dX2_atom_4 (z_aload0 dX2_atom_5 (z_getIv fl_X2_93 dX2_atom_6 rfl rfl (h91) (z_istore2 dX2_atom_9 (z_aload0 dX2_atom_10 (z_ldcS 26 rfl dX2_atom_11 (z_invV1 (md_X2_takes _) cv_X2_110 rfl dX2_atom_13 rfl (Nat.le_of_ble_eq_true rfl) (Rm.gn (by omega) (by decide) (by omega) (by omega)) (X_takes strB_26 hr1 (fun μ2 hr2 hD2 => ?_))))))))
  rw [eid] at hr2 ⊢
  have F2 : FK μ μ2 := (FK.s29 hD1).tr (FK.s29 hD2)
  have d10 : gI μ2 2 0 10 = nI d := by rw [hD2.2 _ _ _ (by unfold S29; omega), hD1.2 _ _ _ (by unfold S29; omega)]; exact h10
  have hX2 := hr2.1
  by_cases hp : skB T e a < e ∧ T (skB T e a) = 40
  · rw [if_pos hp] at h hK
    have hnw : isW T (skB T e a) (wdE T e (skB T e a)) wNot = false := isW_40 hp.2
    rw [hnw, if_neg (by decide)] at hr2
    rw [hnw]
    have h92 := hr2.2.2.1
    have es : sgF T e (skB T e a) = 40 := (sg_eq (x := 40) (hr.2.2.2.2.2 _ (by omega)).2 (by decide)).mpr hp
    rw [es]
    by_cases h8 : d = 8
    · rw [if_pos h8] at h
      refine z_istore3 dX2_atom_16 (z_iload3 dX2_atom_17 (z_if_ne 32 dX2_atom_18 (by decide) (fun c => absurd (rfl) c) (fun _ => z_iload1 dX2_atom_21 (z_bipush (v := 40) dX2_atom_22 (by decide) (z_icmp_eq 32 dX2_atom_24 (by decide) (fun _ => z_aload0 dX2_atom_32 (z_getIv fl_X2_118 dX2_atom_33 rfl rfl (d10) (z_bipush (v := 8) dX2_atom_36 (by decide) (z_icmp_ne 46 dX2_atom_38 (by decide) (fun c => absurd ((by rw [h8]; rfl)) c) (fun _ => z_aload0 dX2_atom_41 (z_iload2 dX2_atom_42 (z_invV1 (md_X2_fail _) cv_X2_114 rfl dX2_atom_43 rfl (Nat.le_of_ble_eq_true rfl) (Rm.gn (by omega) (by decide) (by omega) (by omega)) (X_fail hX2 ?_)))))))) (fun c => absurd (rfl) c))))))
      exact ⟨rfl, h _ (F2.tr fk_fl) (by rw [gI_sI, if_pos ⟨rfl, rfl, rfl⟩])⟩
    · rw [if_neg h8] at h hK
      have ne8 : ¬ nI d = 8 := fun z => h8 ((nI_eq (b := 8) (by omega) (by decide)).mp z)
      have F3 : FK μ2 (sI (sI μ2 2 0 10 (nI d + 1)) 2 0 9 (nI (skB T e a) + 1)) := fk_10.tr fk_9
      have hr3 : RX T e (skB T e a + 1) (sI (sI μ2 2 0 10 (nI d + 1)) 2 0 9 (nI (skB T e a) + 1)) := hr2.fk F3 (by rw [gI_sI, if_pos ⟨rfl, rfl, rfl⟩, nI_1]) (by omega)
      have d3 : gI (sI (sI μ2 2 0 10 (nI d + 1)) 2 0 9 (nI (skB T e a) + 1)) 2 0 10 = nI (d + 1) := by rw [gI_sI, if_neg (by simp), gI_sI, if_pos ⟨rfl, rfl, rfl⟩, nI_1]
      have h93 : gI (sI μ2 2 0 10 (nI d + 1)) 2 0 9 = nI (skB T e a) := by rw [gI_sI, if_neg (by simp)]; exact h92
      cases hc : prs T e g 2 (d + 1) (skB T e a + 1) with
      | inl x =>
        rw [hc] at h hK
        have hK' : e - a + 1 ≤ K := hK
        refine z_istore3 dX2_atom_16 (z_iload3 dX2_atom_17 (z_if_ne 32 dX2_atom_18 (by decide) (fun c => absurd (rfl) c) (fun _ => z_iload1 dX2_atom_21 (z_bipush (v := 40) dX2_atom_22 (by decide) (z_icmp_eq 32 dX2_atom_24 (by decide) (fun _ => z_aload0 dX2_atom_32 (z_getIv fl_X2_118 dX2_atom_33 rfl rfl (d10) (z_bipush (v := 8) dX2_atom_36 (by decide) (z_icmp_ne 46 dX2_atom_38 (by decide) (fun _ => z_aload0 dX2_atom_46 (z_dupa dX2_atom_47 (z_getIv fl_X2_118 dX2_atom_48 rfl rfl (d10) (z_iconst (v := 1) dX2_atom_51 (by decide) (z_iadd dX2_atom_52 (z_putI fl_X2_118 dX2_atom_53 rfl rfl ⟨rfl, rfl⟩ (z_iload3 dX2_atom_56 (z_if_eq 76 dX2_atom_57 (by decide) (fun _ => z_aload0 dX2_atom_76 (z_dupa dX2_atom_77 (z_getIv fl_X2_93 dX2_atom_78 rfl rfl (h93) (z_iconst (v := 1) dX2_atom_81 (by decide) (z_iadd dX2_atom_82 (z_putI fl_X2_93 dX2_atom_83 rfl rfl ⟨rfl, rfl⟩ (z_aload0 dX2_atom_86 (z_invV0 (md_X2_cond _) cv_X2_139 rfl dX2_atom_87 rfl (Nat.le_of_ble_eq_true rfl) (Rm.gn (by omega) (by decide) (by omega) (by omega)) (ihC (d + 1) (skB T e a + 1) (D - 1) (e - (skB T e a + 1) + 1) _ _ (by omega) (by omega) (by omega) hr3 d3 (KR.l hc (Nat.le_refl _)) (PO.l hc fun μ4 F4 hx4 => ?_)))))))))) (fun c => absurd (rfl) c))))))))) (fun c => absurd c (ne8)))))) (fun c => absurd (rfl) c))))))
        exact ⟨rfl, h μ4 (F2.tr (F3.tr F4)) hx4⟩
      | inr r =>
        rw [hc] at h hK
        dsimp only at h hK
        have rk := prs_ok g 2 (d + 1) _ r.1 r.2 (by omega) (by omega) hc
        have s1 := skB_ge T e r.1
        have s2 : skB T e r.1 ≤ e := skE_le rk.2.2.1
        have hK' : r.1 - a ≤ K := by
          split at hK
          · have : skB T e r.1 + 1 - a ≤ K := hK
            omega
          · have : e - a + 1 ≤ K := hK
            omega
        refine z_istore3 dX2_atom_16 (z_iload3 dX2_atom_17 (z_if_ne 32 dX2_atom_18 (by decide) (fun c => absurd (rfl) c) (fun _ => z_iload1 dX2_atom_21 (z_bipush (v := 40) dX2_atom_22 (by decide) (z_icmp_eq 32 dX2_atom_24 (by decide) (fun _ => z_aload0 dX2_atom_32 (z_getIv fl_X2_118 dX2_atom_33 rfl rfl (d10) (z_bipush (v := 8) dX2_atom_36 (by decide) (z_icmp_ne 46 dX2_atom_38 (by decide) (fun _ => z_aload0 dX2_atom_46 (z_dupa dX2_atom_47 (z_getIv fl_X2_118 dX2_atom_48 rfl rfl (d10) (z_iconst (v := 1) dX2_atom_51 (by decide) (z_iadd dX2_atom_52 (z_putI fl_X2_118 dX2_atom_53 rfl rfl ⟨rfl, rfl⟩ (z_iload3 dX2_atom_56 (z_if_eq 76 dX2_atom_57 (by decide) (fun _ => z_aload0 dX2_atom_76 (z_dupa dX2_atom_77 (z_getIv fl_X2_93 dX2_atom_78 rfl rfl (h93) (z_iconst (v := 1) dX2_atom_81 (by decide) (z_iadd dX2_atom_82 (z_putI fl_X2_93 dX2_atom_83 rfl rfl ⟨rfl, rfl⟩ (z_aload0 dX2_atom_86 (z_invV0 (md_X2_cond _) cv_X2_139 rfl dX2_atom_87 rfl (Nat.le_of_ble_eq_true rfl) (Rm.gn (by omega) (by decide) (by omega) (by omega)) (ihC (d + 1) (skB T e a + 1) (D - 1) (r.1 - (skB T e a + 1)) _ _ (by omega) (by omega) (by omega) hr3 d3 (KR.r hc (Nat.le_refl _)) (PO.r hc fun μ4 h4 G F4 hr4 d4 c4 ev4 => ?_)))))))))) (fun c => absurd (rfl) c))))))))) (fun c => absurd c (ne8)))))) (fun c => absurd (rfl) c))))))
        have hX4 := hr4.1
        refine z_astore4 dX2_atom_90 (z_aload0 dX2_atom_92 (z_invV0 (md_X2_sign _) cv_X2_99 rfl dX2_atom_93 rfl (Nat.le_of_ble_eq_true rfl) (Rm.gn (by omega) (by decide) (by omega) (by omega)) (X_sign hr4 (fun μ5 hr5 hD5 => ?_))))
        have hX5 := hr5.1
        have h95 := hr5.2.2.1
        have d5 : gI μ5 2 0 10 = nI (d + 1) := by rw [hD5.2 _ _ _ (by unfold S29; omega)]; exact d4
        have F05 : FK μ μ5 := F2.tr (F3.tr (F4.tr (FK.s29 hD5)))
        by_cases q41 : skB T e r.1 < e ∧ T (skB T e r.1) = 41
        · rw [if_pos q41] at h
          have es5 : sgF T e (skB T e r.1) = 41 := (sg_eq (x := 41) (hr.2.2.2.2.2 _ (by omega)).2 (by decide)).mpr q41
          rw [es5]
          have d5' : gI (sI μ5 2 0 9 (nI (skB T e r.1) + 1)) 2 0 10 = nI (d + 1) := by rw [gI_sI, if_neg (by simp)]; exact d5
          refine z_bipush (v := 41) dX2_atom_96 (by decide) (z_icmp_eq 109 dX2_atom_98 (by decide) (fun _ => z_aload0 dX2_atom_109 (z_dupa dX2_atom_110 (z_getIv fl_X2_93 dX2_atom_111 rfl rfl (h95) (z_iconst (v := 1) dX2_atom_114 (by decide) (z_iadd dX2_atom_115 (z_putI fl_X2_93 dX2_atom_116 rfl rfl ⟨rfl, rfl⟩ (z_aload0 dX2_atom_119 (z_dupa dX2_atom_120 (z_getIv fl_X2_118 dX2_atom_121 rfl rfl (d5') (z_iconst (v := 1) dX2_atom_124 (by decide) (z_isub dX2_atom_125 (z_putI fl_X2_118 dX2_atom_126 rfl rfl ⟨rfl, rfl⟩ (z_aload4 dX2_atom_129 (z_areturn dX2_atom_131 rfl (Or.inl ⟨_, rfl⟩) (show _ ≤ K by omega) (show _ ≤ 3 * K by omega) ?_)))))))))))))) (fun c => absurd (rfl) c))
          have F6 : FK μ5 (sI (sI μ5 2 0 9 (nI (skB T e r.1) + 1)) 2 0 10 (nI (d + 1) - 1)) := fk_9.tr fk_10
          refine h _ h4 G (F05.tr F6) (hr5.fk F6 (by rw [gI_sI, if_neg (by simp), gI_sI, if_pos ⟨rfl, rfl, rfl⟩, nI_1]) (by omega)) (by rw [gI_sI, if_pos ⟨rfl, rfl, rfl⟩, nI_pred]) (CdX.mono (by show _ ≤ skB T e r.1 + 1 - a; omega) (c4.kp ((FK.s29 hD5).tr F6).2)) ev4
        · rw [if_neg q41] at h
          have n41 : ¬ sgF T e (skB T e r.1) = 41 := fun z => by
            by_cases q : skB T e r.1 < e
            · exact q41 ((sg_eq (x := 41) (hr.2.2.2.2.2 _ (by omega)).2 (by decide)).mp z)
            · rw [sgF, if_neg q] at z; exact absurd z (by decide)
          refine z_bipush (v := 41) dX2_atom_96 (by decide) (z_icmp_eq 109 dX2_atom_98 (by decide) (fun c => absurd c (n41)) (fun _ => z_aload0 dX2_atom_101 (z_aload0 dX2_atom_102 (z_getIv fl_X2_93 dX2_atom_103 rfl rfl (h95) (z_invV1 (md_X2_fail _) cv_X2_114 rfl dX2_atom_106 rfl (Nat.le_of_ble_eq_true rfl) (Rm.gn (by omega) (by decide) (by omega) (by omega)) (X_fail hX5 ?_))))))
          exact ⟨rfl, h _ (F05.tr fk_fl) (by rw [gI_sI, if_pos ⟨rfl, rfl, rfl⟩])⟩
  · rw [if_neg hp] at h hK
    have n40 : ¬ sgF T e (skB T e a) = 40 := fun z => by
      by_cases q : skB T e a < e
      · exact hp ((sg_eq (x := 40) (hr.2.2.2.2.2 _ (by omega)).2 (by decide)).mp z)
      · rw [sgF, if_neg q] at z; exact absurd z (by decide)
    cases hw : isW T (skB T e a) (wdE T e (skB T e a)) wNot with
    | true =>
      rw [hw, if_pos rfl] at h hr2 hK
      have l3 : wdE T e (skB T e a) - skB T e a = 3 := isW_len hw
      have h92 := hr2.2.2.1
      by_cases h8 : d = 8
      · rw [if_pos h8] at h
        refine z_istore3 dX2_atom_16 (z_iload3 dX2_atom_17 (z_if_ne 32 dX2_atom_18 (by decide) (fun _ => z_aload0 dX2_atom_32 (z_getIv fl_X2_118 dX2_atom_33 rfl rfl (d10) (z_bipush (v := 8) dX2_atom_36 (by decide) (z_icmp_ne 46 dX2_atom_38 (by decide) (fun c => absurd ((by rw [h8]; rfl)) c) (fun _ => z_aload0 dX2_atom_41 (z_iload2 dX2_atom_42 (z_invV1 (md_X2_fail _) cv_X2_114 rfl dX2_atom_43 rfl (Nat.le_of_ble_eq_true rfl) (Rm.gn (by omega) (by decide) (by omega) (by omega)) (X_fail hX2 ?_)))))))) (fun c => absurd c (n10))))
        exact ⟨rfl, h _ (F2.tr fk_fl) (by rw [gI_sI, if_pos ⟨rfl, rfl, rfl⟩])⟩
      · rw [if_neg h8] at h hK
        have ne8 : ¬ nI d = 8 := fun z => h8 ((nI_eq (b := 8) (by omega) (by decide)).mp z)
        have F3 : FK μ2 (nw (sI μ2 2 0 10 (nI d + 1)) 30 0) := fk_10.tr (fk_nw (by decide) (by decide))
        have hr3 : RX T e (wdE T e (skB T e a)) (nw (sI μ2 2 0 10 (nI d + 1)) 30 0) := hr2.fk F3 (by rw [gI_nw, if_neg (by simp), gI_sI, if_neg (by simp)]; exact h92) w2
        have d3 : gI (nw (sI μ2 2 0 10 (nI d + 1)) 30 0) 2 0 10 = nI (d + 1) := by rw [gI_nw, if_neg (by simp), gI_sI, if_pos ⟨rfl, rfl, rfl⟩, nI_1]
        cases hc : prs T e g 0 (d + 1) (wdE T e (skB T e a)) with
        | inl x =>
          rw [hc] at h hK
          have hK' : e - a + 1 ≤ K := hK
          refine z_istore3 dX2_atom_16 (z_iload3 dX2_atom_17 (z_if_ne 32 dX2_atom_18 (by decide) (fun _ => z_aload0 dX2_atom_32 (z_getIv fl_X2_118 dX2_atom_33 rfl rfl (d10) (z_bipush (v := 8) dX2_atom_36 (by decide) (z_icmp_ne 46 dX2_atom_38 (by decide) (fun _ => z_aload0 dX2_atom_46 (z_dupa dX2_atom_47 (z_getIv fl_X2_118 dX2_atom_48 rfl rfl (d10) (z_iconst (v := 1) dX2_atom_51 (by decide) (z_iadd dX2_atom_52 (z_putI fl_X2_118 dX2_atom_53 rfl rfl ⟨rfl, rfl⟩ (z_iload3 dX2_atom_56 (z_if_eq 76 dX2_atom_57 (by decide) (fun c => absurd c (n10)) (fun _ => z_new 30 nw_X2_166 dX2_atom_60 rfl (by decide) rfl (show 0 + 1 ≤ K by omega) (show 0 + 1 ≤ 3 * K by omega) (z_dupa dX2_atom_63 (z_aload0 dX2_atom_64 (z_invV0 (md_X2_atom _) cv_X2_156 rfl dX2_atom_65 rfl (Nat.le_of_ble_eq_true rfl) (Rm.gn (by omega) (by decide) (by omega) (by omega)) (ihA (d + 1) (wdE T e (skB T e a)) (D - 1) (e - wdE T e (skB T e a) + 1) _ _ (by omega) (by omega) (by omega) hr3 d3 (KR.l hc (Nat.le_refl _)) (PO.l hc fun μ4 F4 hx4 => ?_)))))))))))))) (fun c => absurd c (ne8)))))) (fun c => absurd c (n10))))
          exact ⟨rfl, h μ4 (F2.tr (F3.tr F4)) hx4⟩
        | inr r =>
          rw [hc] at h hK
          dsimp only at h hK
          have hK' : r.1 - a ≤ K := hK
          have rk := prs_ok g 0 (d + 1) _ r.1 r.2 (by omega) w2 hc
          have rk1 := rk.1 (by omega)
          refine z_istore3 dX2_atom_16 (z_iload3 dX2_atom_17 (z_if_ne 32 dX2_atom_18 (by decide) (fun _ => z_aload0 dX2_atom_32 (z_getIv fl_X2_118 dX2_atom_33 rfl rfl (d10) (z_bipush (v := 8) dX2_atom_36 (by decide) (z_icmp_ne 46 dX2_atom_38 (by decide) (fun _ => z_aload0 dX2_atom_46 (z_dupa dX2_atom_47 (z_getIv fl_X2_118 dX2_atom_48 rfl rfl (d10) (z_iconst (v := 1) dX2_atom_51 (by decide) (z_iadd dX2_atom_52 (z_putI fl_X2_118 dX2_atom_53 rfl rfl ⟨rfl, rfl⟩ (z_iload3 dX2_atom_56 (z_if_eq 76 dX2_atom_57 (by decide) (fun c => absurd c (n10)) (fun _ => z_new 30 nw_X2_166 dX2_atom_60 rfl (by decide) rfl (show 0 + 1 ≤ K by omega) (show 0 + 1 ≤ 3 * K by omega) (z_dupa dX2_atom_63 (z_aload0 dX2_atom_64 (z_invV0 (md_X2_atom _) cv_X2_156 rfl dX2_atom_65 rfl (Nat.le_of_ble_eq_true rfl) (Rm.gn (by omega) (by decide) (by omega) (by omega)) (ihA (d + 1) (wdE T e (skB T e a)) (D - 1) (r.1 - wdE T e (skB T e a)) _ _ (by omega) (by omega) (by omega) hr3 d3 (KR.r hc (Nat.le_refl _)) (PO.r hc fun μ4 h4 G F4 hr4 d4 c4 ev4 => ?_)))))))))))))) (fun c => absurd c (ne8)))))) (fun c => absurd c (n10))))
          have hX4 := hr4.1
          have d4' : gI (sP μ4 30 (gC μ2 30) 0 (some h4)) 2 0 10 = nI (d + 1) := d4
          refine z_invI1 (md_X9_init _) ci_X2_168 dX2_atom_68 rfl (Nat.le_of_ble_eq_true rfl) (Rm.gn (by omega) (by decide) (by omega) (by omega)) (X_ntInit (z_astore4 dX2_atom_71 (z_goto 119 dX2_atom_73 (by decide) (z_aload0 dX2_atom_119 (z_dupa dX2_atom_120 (z_getIv fl_X2_118 dX2_atom_121 rfl rfl (d4') (z_iconst (v := 1) dX2_atom_124 (by decide) (z_isub dX2_atom_125 (z_putI fl_X2_118 dX2_atom_126 rfl rfl ⟨rfl, rfl⟩ (z_aload4 dX2_atom_129 (z_areturn dX2_atom_131 rfl (Or.inl ⟨_, rfl⟩) (show _ ≤ K by omega) (show _ ≤ 3 * K by omega) ?_)))))))))))
          have ej : gC (nw (sI μ2 2 0 10 (nI d + 1)) 30 0) 30 = gC μ2 30 + 1 := by rw [gC_nw, if_pos rfl]; rfl
          have hk30 := F4.2 30 (by omega)
          have hj : gC μ2 30 < gC μ4 30 := by have := hk30.1; omega
          have hn : gP μ4 30 (gC μ2 30) 0 = none := by
            rw [((hk30.2 (gC μ2 30) (by omega)).2 0).2, gP_nw, if_pos ⟨rfl, rfl⟩]
          have F24 : FK μ2 (sP μ4 30 (gC μ2 30) 0 (some h4)) := ⟨(F3.tr F4).1.wP (by unfold TKx; omega), kp_wP (F3.tr F4).2 (Nat.le_refl _)⟩
          have F6 : FK μ2 (sI (sP μ4 30 (gC μ2 30) 0 (some h4)) 2 0 10 (nI (d + 1) - 1)) := F24.tr fk_10
          refine h _ (30, gC μ2 30) _ (F2.tr F6) (hr2.fk F6 (by rw [gI_sI, if_neg (by simp)]; exact hr4.2.2.1) (by omega)) (by rw [gI_sI, if_pos ⟨rfl, rfl, rfl⟩, nI_pred]) (CdX.mono (d := r.1 - wdE T e (skB T e a) + 1) (by show _ ≤ r.1 - a; omega) ((nt_cd hj hn c4).kp fk_10.2)) (ev_not ev4)
    | false =>
      rw [hw, if_neg (by decide)] at h hr2 hK
      cases hfc : fctP T e (skB T e a) with
      | inl x =>
        rw [hfc] at h hK
        have hK' : e - a + 1 ≤ K := hK
        refine z_istore3 dX2_atom_16 (z_iload3 dX2_atom_17 (z_if_ne 32 dX2_atom_18 (by decide) (fun c => absurd (rfl) c) (fun _ => z_iload1 dX2_atom_21 (z_bipush (v := 40) dX2_atom_22 (by decide) (z_icmp_eq 32 dX2_atom_24 (by decide) (fun c => absurd c (n40)) (fun _ => z_aload0 dX2_atom_27 (z_invV0 (md_X2_fact _) cv_X2_163 rfl dX2_atom_28 rfl (Nat.le_of_ble_eq_true rfl) (Rm.gn (by omega) (by decide) (by omega) (by omega)) (X_fact eid hr2 (fun p st j F μ3 ef hr3 F3 d3 c3 ev3 => ?_) (fun y μ3 ef F3 hx => ?_)))))))))
        · rw [hfc] at ef; cases ef
        · rw [hfc] at ef
          cases ef
          exact ⟨rfl, h _ (F2.tr F3) hx⟩
      | inr r =>
        rw [hfc] at h hK
        have hK' : r.1 - a ≤ K := hK
        have rk := fct_ok (p := r.1) (st := r.2) b2 hfc
        refine z_istore3 dX2_atom_16 (z_iload3 dX2_atom_17 (z_if_ne 32 dX2_atom_18 (by decide) (fun c => absurd (rfl) c) (fun _ => z_iload1 dX2_atom_21 (z_bipush (v := 40) dX2_atom_22 (by decide) (z_icmp_eq 32 dX2_atom_24 (by decide) (fun c => absurd c (n40)) (fun _ => z_aload0 dX2_atom_27 (z_invV0 (md_X2_fact _) cv_X2_163 rfl dX2_atom_28 rfl (Nat.le_of_ble_eq_true rfl) (Rm.gn (by omega) (by decide) (by omega) (by omega)) (X_fact eid hr2 (fun p st j F μ3 ef hr3 F3 d3 c3 ev3 => ?_) (fun y μ3 ef F3 hx => ?_)))))))))
        · rw [hfc] at ef
          cases ef
          refine z_areturn dX2_atom_31 rfl (Or.inl ⟨_, rfl⟩) (show _ ≤ K by omega) (show _ ≤ 3 * K by omega) ?_
          exact h _ _ _ (F2.tr F3) hr3 (d3.trans d10) (CdX.mono (by omega) c3) ev3
        · rw [hfc] at ef; cases ef
end R11
