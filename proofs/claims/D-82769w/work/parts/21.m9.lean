/-! Model: feed, sign, figure, person, tell, days, ahead -/
section M9
variable {μ μ' : Mem} {Q : Res → Mem → Prop} {σ : Sg} {Λ : Lws}
theorem TM.sA {p k : Nat} {v : Int32} (h : TM σ Λ μ) (hp : (∀ c, c < 40 → mp c ≠ p) ∧ 50 < p ∧ (p < 63 ∨ 69 < p)) : TM σ Λ (sI μ p 0 k v) := by
  refine h.go (S := fun q _ _ => q = p) (h.2.1.dif (S := fun q _ _ => q = p) (Dif.sI rfl) ?_) (Dif.sI rfl) (fun q i k e => by omega) ?_ rfl (fun _ => rfl)
  · rintro q k ⟨-, c, j, hs, rfl, rfl⟩ h1
    exact hp.1 c (sM_lt hs) h1
  · rw [gI_sI, if_neg (fun e => by have := e.1; omega)]; exact h.2.2.1
theorem TM.sF {k : Nat} {v : Int32} (h : TM σ Λ μ) (hk : (∀ j, j < 6 → tS.getD j 0 ≠ k) ∧ (∀ j, j < 18 → tT.getD j 0 ≠ k)) : TM σ Λ (sI μ 50 0 k v) := by
  refine h.go (S := fun p _ j => p = 50 ∧ j = k) (h.2.1.dif (S := fun p _ j => p = 50 ∧ j = k) (Dif.sI ⟨rfl, rfl⟩) ?_) (Dif.sI ⟨rfl, rfl⟩) (fun q i k e => by omega) ?_ rfl (fun _ => rfl)
  · rintro q k' ⟨-, c, j, hs, rfl, rfl⟩ ⟨h1, h2⟩
    have h7 : ∀ c, c < 40 → mp c = 50 → c = 7 ∨ c = 34 := by decide +kernel
    rcases h7 c (sM_lt hs) h1 with rfl | rfl
    · exact hk.1 j (sM_7 hs) h2
    · exact hk.2 j (sM_34 hs) h2
  · rw [gI_sI, if_neg (fun e => hk.2 13 (by decide) (by have := e.2.2; exact this))]; exact h.2.2.1
theorem byT_byT (x : Int32) : x.toInt8.toInt32.toInt8.toInt32 = x.toInt8.toInt32 := by simp
theorem feedS_ne (f : Nat → Int32) (c i : Nat) (hc : c ≠ 35) : ∀ k, feedS σ f k c i = σ c i
  | 0 => rfl
  | k + 1 => by rw [feedS, up2_eq, if_neg (fun q => hc q.1)]; exact feedS_ne f c i hc k
set_option maxRecDepth 4000 in
theorem P_feed {a b c d e : Int32} (hI : TM σ Λ μ) {s : Nat} (hs : σ 34 15 = nI s) (hs2 : s ≤ 400) (h : ∀ μ', TM (pFeed σ a b c d e).1 Λ μ' → Fm μ μ' → gI μ' 50 0 0 = (pFeed σ a b c d e).2.1 → Q (rI (pFeed σ a b c d e).2.2) μ') : Ct RX5 cX5_feed (7, some .int, [], false, rmm 1 0 0) [vr 50 0, vi a, vi b, vi c, vi d, vi e] μ Q := by
  refine Ct.of (ls := [some (vr 50 0), some (vi a), some (vi b), some (vi c), some (vi d), some (vi e), none]) rfl fun Γ C ad => ?_
  have hT := hI.th (v := 0)
  have hR := hT.2.1
  have hM := hT.1
  unfold pFeed at h
  have e20 : σ 34 15 + 20 = nI (s + 20) := by rw [hs, show (20 : Int32) = nI 20 from rfl, nI_add]
  by_cases h1 : 400 < σ 34 15 + 20
  · rw [if_pos h1] at h
    refine z_aload0 dX5_feed_0 (z_iconst (v := 0) dX5_feed_1 (by decide) (z_putI fl_X5_178 dX5_feed_2 rfl rfl ⟨rfl, rfl⟩ (z_aload0 dX5_feed_5 (z_getIv fl_X5_181 dX5_feed_6 rfl rfl (hR.s34 15 (by decide)) (z_bipush (v := 20) dX5_feed_9 (by decide) (z_iadd dX5_feed_11 (z_sipush (v := 400) dX5_feed_12 (by decide) (z_icmp_le 20 dX5_feed_15 (by decide) (fun c => absurd c (Int32.not_le.mpr h1)) (fun _ => z_iconst (v := (-1)) dX5_feed_18 (by decide) (z_ireturn dX5_feed_19 rfl (by decide) (by decide) ?_))))))))))
    exact h _ hT (Fm.rf.sI) (by simp [gI_sI])
  · rw [if_neg h1] at h
    have hs3 : s + 20 ≤ 400 := by
      rw [e20, show (400 : Int32) = nI 400 from rfl] at h1
      exact Nat.not_lt.mp fun q => h1 (nI_lt q (by omega))
    refine z_aload0 dX5_feed_0 (z_iconst (v := 0) dX5_feed_1 (by decide) (z_putI fl_X5_178 dX5_feed_2 rfl rfl ⟨rfl, rfl⟩ (z_aload0 dX5_feed_5 (z_getIv fl_X5_181 dX5_feed_6 rfl rfl (hR.s34 15 (by decide)) (z_bipush (v := 20) dX5_feed_9 (by decide) (z_iadd dX5_feed_11 (z_sipush (v := 400) dX5_feed_12 (by decide) (z_icmp_le 20 dX5_feed_15 (by decide) (fun _ => z_aload0 dX5_feed_20 (z_getP (v := some (60, 0)) fl_X5_17 dX5_feed_21 rfl rfl (hM 9 rfl) (z_iconst (v := 0) dX5_feed_24 (by decide) (z_iload1 dX5_feed_25 (z_iast dX5_feed_26 rfl ⟨rfl, (show 0 < 5 by decide), Nat.le_of_ble_eq_true rfl⟩ (z_aload0 dX5_feed_27 (z_getP (v := some (60, 0)) fl_X5_17 dX5_feed_28 rfl rfl (hM 9 rfl) (z_iconst (v := 1) dX5_feed_31 (by decide) (z_iload2 dX5_feed_32 (z_iast dX5_feed_33 rfl ⟨rfl, (show 1 < 5 by decide), Nat.le_of_ble_eq_true rfl⟩ (z_aload0 dX5_feed_34 (z_getP (v := some (60, 0)) fl_X5_17 dX5_feed_35 rfl rfl (hM 9 rfl) (z_iconst (v := 2) dX5_feed_38 (by decide) (z_iload3 dX5_feed_39 (z_iast dX5_feed_40 rfl ⟨rfl, (show 2 < 5 by decide), Nat.le_of_ble_eq_true rfl⟩ (z_aload0 dX5_feed_41 (z_getP (v := some (60, 0)) fl_X5_17 dX5_feed_42 rfl rfl (hM 9 rfl) (z_iconst (v := 3) dX5_feed_45 (by decide) (z_iload4 dX5_feed_46 (z_iast dX5_feed_48 rfl ⟨rfl, (show 3 < 5 by decide), Nat.le_of_ble_eq_true rfl⟩ (z_aload0 dX5_feed_49 (z_getP (v := some (60, 0)) fl_X5_17 dX5_feed_50 rfl rfl (hM 9 rfl) (z_iconst (v := 4) dX5_feed_53 (by decide) (z_iload5 dX5_feed_54 (z_iast dX5_feed_56 rfl ⟨rfl, (show 4 < 5 by decide), Nat.le_of_ble_eq_true rfl⟩ (z_iconst (v := 0) dX5_feed_57 (by decide) (z_istore6 dX5_feed_58 ?_))))))))))))))))))))))))))) (fun c => absurd (Int32.not_lt.mp h1) c)))))))))
    refine loopN (P := fun k => ∀ μ', TM (feedS σ (fiv a b c d e) k) Λ μ' → Fm μ μ' → gI μ' 50 0 0 = 0 → (∀ j, j < 5 → gI μ' 60 0 j = fiv a b c d e j) → Z RX5 cX5_feed (7, some .int, [], false, rmm 1 0 0) (Γ, C, μ, ad, Q) (0) (0) (μ') 60 [some (vr 50 0), some (vi a), some (vi b), some (vi c), some (vi d), some (vi e), some (vi (nI k))] []) 20 ?_ ?_ 0 (Nat.zero_le _) _ (((((hT.sA (by decide)).sA (by decide)).sA (by decide)).sA (by decide)).sA (by decide)) (Fm.rf.sI.sI.sI.sI.sI.sI) (by simp [gI_sI]) ?_
    · intro μ' hT' hF h0 _
      have hR' := hT'.2.1
      have e34 : feedS σ (fiv a b c d e) 20 34 15 = σ 34 15 := feedS_ne _ 34 15 (by decide) 20
      have T2 := hT'.s34 15 (σ 34 15 + 20) (by decide)
      refine z_iload6 dX5_feed_60 (z_bipush (v := 20) dX5_feed_62 (by decide) (z_icmp_ge 106 dX5_feed_64 (by decide) (fun _ => ?_) (fun c => absurd (lpt (n := 20) rfl) c)))
      refine z_aload0 dX5_feed_106 (z_dupa dX5_feed_107 (z_getIv fl_X5_181 dX5_feed_108 rfl rfl (hR'.s34 15 (by decide)) (z_bipush (v := 20) dX5_feed_111 (by decide) (z_iadd dX5_feed_113 (z_putI fl_X5_181 dX5_feed_114 rfl rfl ⟨rfl, rfl⟩ ?_)))))
      rw [e34]
      have hR2 := T2.2.1
      refine z_aload0 dX5_feed_117 (z_getIv fl_X5_181 dX5_feed_118 rfl rfl (hR2.s34 15 (by decide)) (z_ireturn dX5_feed_121 rfl (by decide) (by decide) ?_))
      exact h _ T2 (hF.sI) (by rw [gI_sI, if_neg (by simp)]; exact h0)
    · intro k hk ih μ' hT' hF h0 h5
      have hR' := hT'.2.1
      have hM' := hT'.1
      have e34 : feedS σ (fiv a b c d e) k 34 15 = nI s := (feedS_ne _ 34 15 (by decide) k).trans hs
      have ed : nI k / 4 = nI (k / 4) := pk_div (a := k) (d := 4) (by omega) (by decide) (by decide)
      have er : (24 : Int32) - 8 * (nI k - nI k / 4 * 4) = nI (24 - 8 * (k % 4)) := by
        rw [show nI k - nI k / 4 * 4 = nI (k % 4) from pk_rem (a := k) (d := 4) (by omega) (by decide) (by decide)]
        have : k % 4 = 0 ∨ k % 4 = 1 ∨ k % 4 = 2 ∨ k % 4 = 3 := by omega
        rcases this with q | q | q | q <;> rw [q] <;> rfl
      have ex : feedS σ (fiv a b c d e) k 34 15 + nI k = nI (s + k) := by rw [e34, nI_add]
      refine z_iload6 dX5_feed_60 (z_bipush (v := 20) dX5_feed_62 (by decide) (z_icmp_ge 106 dX5_feed_64 (by decide) (fun c => absurd c (lpf (n := 20) rfl hk (by decide))) (fun _ => z_aload0 dX5_feed_67 (z_getP (v := some (53, 0)) fl_X5_9 dX5_feed_68 rfl rfl (hM' 2 rfl) (z_aload0 dX5_feed_71 (z_getIv fl_X5_181 dX5_feed_72 rfl rfl (hR'.s34 15 (by decide)) (z_iload6 dX5_feed_75 (z_iadd dX5_feed_77 (z_aload0 dX5_feed_78 (z_getP (v := some (60, 0)) fl_X5_17 dX5_feed_79 rfl rfl (hM' 9 rfl) (z_iload6 dX5_feed_82 (z_iconst (v := 4) dX5_feed_84 (by decide) (z_idiv dX5_feed_85 (by decide) (z_ialdv dX5_feed_86 rfl ⟨ed, (show k / 4 < 5 by omega), Nat.le_of_ble_eq_true rfl⟩ (h5 (k / 4) (by omega)) (z_bipush (v := 24) dX5_feed_87 (by decide) (z_bipush (v := 8) dX5_feed_89 (by decide) (z_iload6 dX5_feed_91 (z_iconst (v := 4) dX5_feed_93 (by decide) (z_irem dX5_feed_94 (by decide) (z_imul dX5_feed_95 (z_isub dX5_feed_96 (z_ishr dX5_feed_97 (z_i2b dX5_feed_98 (z_bast dX5_feed_99 rfl ⟨ex, (show s + k < 400 by omega), Nat.le_of_ble_eq_true rfl⟩ (z_iinc6 dX5_feed_100 (inc1 k) (z_goto 60 dX5_feed_103 (by decide) ?_))))))))))))))))))))))))))
      rw [er, byT_byT]
      refine ih _ ?_ hF.sI (by rw [gI_sI, if_neg (by simp)]; exact h0) (fun j hj => by rw [gI_sI, if_neg (by simp)]; exact h5 j hj)
      have := hT'.sc 35 (s + k) (feedB (fiv a b c d e) k) (by decide)
      rw [feedS, hs, tn_nI (by omega)]
      exact this
    · intro j hj
      have : j = 0 ∨ j = 1 ∨ j = 2 ∨ j = 3 ∨ j = 4 := by omega
      rcases this with rfl | rfl | rfl | rfl | rfl <;> simp [gI_sI, fiv]
theorem i24 (a w : Nat) : (24 : Int32) * nI a + nI w = nI (24 * a + w) := by rw [show (24 : Int32) = nI 24 from rfl, pk_mul, nI_add]
theorem P_sign {p i : Int32} (hI : TM σ Λ μ) {n : Nat} (hn : σ 34 1 = nI n) (hn2 : n ≤ 80) (h : ∀ μ', TM (pSign σ p i).1 Λ μ' → Fm μ μ' → gI μ' 50 0 0 = (pSign σ p i).2.1 → Q (rI (pSign σ p i).2.2) μ') : Ct RX5 cX5_sign (3, some .int, [], false, rmm 3 0 0) [vr 50 0, vi p, vi i] μ Q := by
  refine Ct.of (ls := [some (vr 50 0), some (vi p), some (vi i)]) rfl fun Γ C ad => ?_
  have hT := hI.th (v := 0)
  have hR := hT.2.1
  have hM := hT.1
  unfold pSign at h
  by_cases h1 : isP σ p
  · rw [if_neg (nn h1)] at h
    have h' := h _ hT (Fm.rf.sI) (by simp [gI_sI])
    obtain ⟨x, hx, ex⟩ := lt_nI hn (by omega) h1
    rw [ex, tn_nI (by omega)] at h'
    dsimp only at h'
    by_cases h2 : σ 36 x = 0
    · rw [if_neg (fun q => q.1 h2)] at h'
      refine z_aload0 dX5_sign_0 (z_iconst (v := 0) dX5_sign_1 (by decide) (z_putI fl_X5_178 dX5_sign_2 rfl rfl ⟨rfl, rfl⟩ (z_aload0 dX5_sign_5 (z_aload0 dX5_sign_6 (z_iload1 dX5_sign_7 (z_invV1 (md_X5_nobody _) cv_X5_385 rfl dX5_sign_8 rfl (by decide) (Rm.ofB rfl) (M_nobodyF hR h1 (z_iconst (v := 1) dX5_sign_11 (by decide) (z_invV2 (md_X5_throwsIf _) cv_X5_321 rfl dX5_sign_12 rfl (by decide) (Rm.ofB rfl) (M_thrF (z_if_eq 22 dX5_sign_15 (by decide) (fun _ => z_aload0 dX5_sign_22 (z_getP (v := some (84, 0)) fl_X5_67 dX5_sign_23 rfl rfl (hM 33 rfl) (z_iload1 dX5_sign_26 (z_zaldv dX5_sign_27 rfl ⟨ex, (show x < 80 by omega), Nat.le_of_ble_eq_true rfl⟩ (hR.col 36 _ (by decide)) (z_if_eq 55 dX5_sign_28 (by decide) (fun _ => z_iconst (v := (-1)) dX5_sign_55 (by decide) (z_ireturn dX5_sign_56 rfl (by decide) (by decide) ?_)) (fun c => absurd (h2) c)))))) (fun c => absurd (rfl) c))))))))))))
      exact h'
    · by_cases h3 : 0 ≤ i ∧ i ≤ 23
      · rw [if_pos ⟨h2, h3⟩] at h'
        obtain ⟨y, hy, ey⟩ := in_nI (n := 23) h3 rfl
        rw [ey, tn_nI (by omega)] at h'
        refine z_aload0 dX5_sign_0 (z_iconst (v := 0) dX5_sign_1 (by decide) (z_putI fl_X5_178 dX5_sign_2 rfl rfl ⟨rfl, rfl⟩ (z_aload0 dX5_sign_5 (z_aload0 dX5_sign_6 (z_iload1 dX5_sign_7 (z_invV1 (md_X5_nobody _) cv_X5_385 rfl dX5_sign_8 rfl (by decide) (Rm.ofB rfl) (M_nobodyF hR h1 (z_iconst (v := 1) dX5_sign_11 (by decide) (z_invV2 (md_X5_throwsIf _) cv_X5_321 rfl dX5_sign_12 rfl (by decide) (Rm.ofB rfl) (M_thrF (z_if_eq 22 dX5_sign_15 (by decide) (fun _ => z_aload0 dX5_sign_22 (z_getP (v := some (84, 0)) fl_X5_67 dX5_sign_23 rfl rfl (hM 33 rfl) (z_iload1 dX5_sign_26 (z_zaldv dX5_sign_27 rfl ⟨ex, (show x < 80 by omega), Nat.le_of_ble_eq_true rfl⟩ (hR.col 36 _ (by decide)) (z_if_eq 55 dX5_sign_28 (by decide) (fun c => absurd c (h2)) (fun _ => z_iload2 dX5_sign_31 (z_iconst (v := 0) dX5_sign_32 (by decide) (z_bipush (v := 23) dX5_sign_33 (by decide) (z_invS3 (md_X5_in _) cs_X5_317 dX5_sign_35 rfl (by decide) (Rm.ofB rfl) (M_inT h3 (z_if_eq 55 dX5_sign_38 (by decide) (fun c => absurd c (n10)) (fun _ => z_aload0 dX5_sign_41 (z_getP (v := some (83, 0)) fl_X5_64 dX5_sign_42 rfl rfl (hM 32 rfl) (z_bipush (v := 24) dX5_sign_45 (by decide) (z_iload1 dX5_sign_47 (z_imul dX5_sign_48 (z_iload2 dX5_sign_49 (z_iadd dX5_sign_50 (z_ialdv dX5_sign_51 rfl ⟨by rw [ex, ey, i24], (show 24 * x + y < 1920 by omega), Nat.le_of_ble_eq_true rfl⟩ (hR.col 37 _ (by decide)) (z_goto 56 dX5_sign_52 (by decide) (z_ireturn dX5_sign_56 rfl (by decide) (by decide) ?_))))))))))))))))))))) (fun c => absurd (rfl) c))))))))))))
        exact h'
      · rw [if_neg (fun q => h3 q.2)] at h'
        refine z_aload0 dX5_sign_0 (z_iconst (v := 0) dX5_sign_1 (by decide) (z_putI fl_X5_178 dX5_sign_2 rfl rfl ⟨rfl, rfl⟩ (z_aload0 dX5_sign_5 (z_aload0 dX5_sign_6 (z_iload1 dX5_sign_7 (z_invV1 (md_X5_nobody _) cv_X5_385 rfl dX5_sign_8 rfl (by decide) (Rm.ofB rfl) (M_nobodyF hR h1 (z_iconst (v := 1) dX5_sign_11 (by decide) (z_invV2 (md_X5_throwsIf _) cv_X5_321 rfl dX5_sign_12 rfl (by decide) (Rm.ofB rfl) (M_thrF (z_if_eq 22 dX5_sign_15 (by decide) (fun _ => z_aload0 dX5_sign_22 (z_getP (v := some (84, 0)) fl_X5_67 dX5_sign_23 rfl rfl (hM 33 rfl) (z_iload1 dX5_sign_26 (z_zaldv dX5_sign_27 rfl ⟨ex, (show x < 80 by omega), Nat.le_of_ble_eq_true rfl⟩ (hR.col 36 _ (by decide)) (z_if_eq 55 dX5_sign_28 (by decide) (fun c => absurd c (h2)) (fun _ => z_iload2 dX5_sign_31 (z_iconst (v := 0) dX5_sign_32 (by decide) (z_bipush (v := 23) dX5_sign_33 (by decide) (z_invS3 (md_X5_in _) cs_X5_317 dX5_sign_35 rfl (by decide) (Rm.ofB rfl) (M_inF h3 (z_if_eq 55 dX5_sign_38 (by decide) (fun _ => z_iconst (v := (-1)) dX5_sign_55 (by decide) (z_ireturn dX5_sign_56 rfl (by decide) (by decide) ?_)) (fun c => absurd (rfl) c)))))))))))) (fun c => absurd (rfl) c))))))))))))
        exact h'
  · rw [if_pos h1] at h
    refine z_aload0 dX5_sign_0 (z_iconst (v := 0) dX5_sign_1 (by decide) (z_putI fl_X5_178 dX5_sign_2 rfl rfl ⟨rfl, rfl⟩ (z_aload0 dX5_sign_5 (z_aload0 dX5_sign_6 (z_iload1 dX5_sign_7 (z_invV1 (md_X5_nobody _) cv_X5_385 rfl dX5_sign_8 rfl (by decide) (Rm.ofB rfl) (M_nobodyT hR h1 (z_iconst (v := 1) dX5_sign_11 (by decide) (z_invV2 (md_X5_throwsIf _) cv_X5_321 rfl dX5_sign_12 rfl (by decide) (Rm.ofB rfl) (M_thrT (z_if_eq 22 dX5_sign_15 (by decide) (fun c => absurd c (n10)) (fun _ => z_iconst (v := 0) dX5_sign_18 (by decide) (z_goto 56 dX5_sign_19 (by decide) (z_ireturn dX5_sign_56 rfl (by decide) (by decide) ?_))))))))))))))
    exact h _ hT.th (Fm.rf.sI.sI) (by simp [gI_sI])
theorem k3_0 {k : Nat} (hk : k < 24) : nI k - nI k / 3 * 3 = 0 ↔ k % 3 = 0 := by
  rw [show nI k - nI k / 3 * 3 = nI (k % 3) from pk_rem (a := k) (d := 3) (by omega) (by decide) (by decide)]
  exact nI_eq (a := k % 3) (b := 0) (by omega) (by decide)
theorem k3_1 {k : Nat} (hk : k < 24) : nI k - nI k / 3 * 3 = 1 ↔ k % 3 = 1 := by
  rw [show nI k - nI k / 3 * 3 = nI (k % 3) from pk_rem (a := k) (d := 3) (by omega) (by decide) (by decide)]
  exact nI_eq (a := k % 3) (b := 1) (by omega) (by decide)
theorem P_figure {p : Int32} (hI : TM σ Λ μ) {n : Nat} (hn : σ 34 1 = nI n) (hn2 : n ≤ 80) (h : ∀ μ', TM (pFigure σ p).1 Λ μ' → Fm μ μ' → gI μ' 50 0 0 = (pFigure σ p).2.1 → Q (rI (pFigure σ p).2.2) μ') : Ct RX5 cX5_figure (5, some .int, [], false, rmm 3 0 0) [vr 50 0, vi p] μ Q := by
  refine Ct.of (ls := [some (vr 50 0), some (vi p), none, none, none]) rfl fun Γ C ad => ?_
  have hT := hI.th (v := 0)
  have hR := hT.2.1
  have hM := hT.1
  unfold pFigure at h
  by_cases h1 : isP σ p
  · rw [if_neg (nn h1)] at h
    have h' := h _ hT (Fm.rf.sI) (by simp [gI_sI])
    obtain ⟨x, hx, ex⟩ := lt_nI hn (by omega) h1
    rw [ex, tn_nI (by omega)] at h'
    dsimp only at h'
    subst ex
    by_cases h2 : σ 36 x = 0
    · rw [if_pos h2] at h'
      refine z_aload0 dX5_figure_0 (z_iconst (v := 0) dX5_figure_1 (by decide) (z_putI fl_X5_178 dX5_figure_2 rfl rfl ⟨rfl, rfl⟩ (z_aload0 dX5_figure_5 (z_aload0 dX5_figure_6 (z_iload1 dX5_figure_7 (z_invV1 (md_X5_nobody _) cv_X5_385 rfl dX5_figure_8 rfl (by decide) (Rm.ofB rfl) (M_nobodyF hR h1 (z_iconst (v := 1) dX5_figure_11 (by decide) (z_invV2 (md_X5_throwsIf _) cv_X5_321 rfl dX5_figure_12 rfl (by decide) (Rm.ofB rfl) (M_thrF (z_if_eq 20 dX5_figure_15 (by decide) (fun _ => z_aload0 dX5_figure_20 (z_getP (v := some (84, 0)) fl_X5_67 dX5_figure_21 rfl rfl (hM 33 rfl) (z_iload1 dX5_figure_24 (z_zaldv dX5_figure_25 rfl ⟨rfl, (show x < 80 by omega), Nat.le_of_ble_eq_true rfl⟩ (hR.col 36 _ (by decide)) (z_if_ne 31 dX5_figure_26 (by decide) (fun c => absurd (h2) c) (fun _ => z_iconst (v := (-1)) dX5_figure_29 (by decide) (z_ireturn dX5_figure_30 rfl (by decide) (by decide) ?_))))))) (fun c => absurd (rfl) c))))))))))))
      exact h'
    · rw [if_neg h2] at h'
      refine z_aload0 dX5_figure_0 (z_iconst (v := 0) dX5_figure_1 (by decide) (z_putI fl_X5_178 dX5_figure_2 rfl rfl ⟨rfl, rfl⟩ (z_aload0 dX5_figure_5 (z_aload0 dX5_figure_6 (z_iload1 dX5_figure_7 (z_invV1 (md_X5_nobody _) cv_X5_385 rfl dX5_figure_8 rfl (by decide) (Rm.ofB rfl) (M_nobodyF hR h1 (z_iconst (v := 1) dX5_figure_11 (by decide) (z_invV2 (md_X5_throwsIf _) cv_X5_321 rfl dX5_figure_12 rfl (by decide) (Rm.ofB rfl) (M_thrF (z_if_eq 20 dX5_figure_15 (by decide) (fun _ => z_aload0 dX5_figure_20 (z_getP (v := some (84, 0)) fl_X5_67 dX5_figure_21 rfl rfl (hM 33 rfl) (z_iload1 dX5_figure_24 (z_zaldv dX5_figure_25 rfl ⟨rfl, (show x < 80 by omega), Nat.le_of_ble_eq_true rfl⟩ (hR.col 36 _ (by decide)) (z_if_ne 31 dX5_figure_26 (by decide) (fun _ => z_iconst (v := 0) dX5_figure_31 (by decide) (z_istore2 dX5_figure_32 (z_iconst (v := 0) dX5_figure_33 (by decide) (z_istore3 dX5_figure_34 ?_)))) (fun c => absurd c (h2))))))) (fun c => absurd (rfl) c))))))))))))
      have lp : ∀ k, k ≤ 24 → ∀ o : Option AV, Z RX5 cX5_figure (5, some .int, [], false, rmm 3 0 0) (Γ, C, μ, ad, Q) 0 0 (sI μ 50 0 0 0) 35 [some (vr 50 0), some (vi (nI x)), some (vi (figS σ x k)), some (vi (nI k)), o] [] := by
        refine loopN (P := fun k => ∀ o : Option AV, Z RX5 cX5_figure (5, some .int, [], false, rmm 3 0 0) (Γ, C, μ, ad, Q) 0 0 (sI μ 50 0 0 0) 35 [some (vr 50 0), some (vi (nI x)), some (vi (figS σ x k)), some (vi (nI k)), o] []) 24 ?_ ?_
        · intro o
          refine z_iload3 dX5_figure_35 (z_bipush (v := 24) dX5_figure_36 (by decide) (z_icmp_ge 106 dX5_figure_38 (by decide) (fun _ => z_iload2 dX5_figure_106 (z_bipush (v := 10) dX5_figure_107 (by decide) (z_irem dX5_figure_109 (by decide) (z_ireturn dX5_figure_110 rfl (by decide) (by decide) ?_)))) (fun c => absurd (lpt (n := 24) rfl) c)))
          exact h'
        · intro k hk ih o
          rw [figS, figW, figM] at ih
          have j97 : ∀ w m : Int32, w = (if σ 37 (24 * x + k) = 60 then 0 else σ 37 (24 * x + k) - 65 + 10) → m = (if k % 3 = 0 then 7 else if k % 3 = 1 then 3 else 1) → Z RX5 cX5_figure (5, some .int, [], false, rmm 3 0 0) (Γ, C, μ, ad, Q) (0) (0) (sI μ 50 0 0 0) 97 [some (vr 50 0), some (vi (nI x)), some (vi (figS σ x k)), some (vi (nI k)), some (vi (σ 37 (24 * x + k)))] [vi m, vi w, vi (figS σ x k)] := by
            intro w m hw hm
            rw [← hw, ← hm] at ih
            refine z_imul dX5_figure_97 (z_iadd dX5_figure_98 (z_istore2 dX5_figure_99 (z_iinc3 dX5_figure_100 (inc1 k) (z_goto 35 dX5_figure_103 (by decide) ?_))))
            exact ih _
          have j74 : ∀ w : Int32, w = (if σ 37 (24 * x + k) = 60 then 0 else σ 37 (24 * x + k) - 65 + 10) → Z RX5 cX5_figure (5, some .int, [], false, rmm 3 0 0) (Γ, C, μ, ad, Q) (0) (0) (sI μ 50 0 0 0) 74 [some (vr 50 0), some (vi (nI x)), some (vi (figS σ x k)), some (vi (nI k)), some (vi (σ 37 (24 * x + k)))] [vi w, vi (figS σ x k)] := by
            intro w hw
            refine z_iload3 dX5_figure_74 (z_iconst (v := 3) dX5_figure_75 (by decide) (z_irem dX5_figure_76 (by decide) (z_if_ne 85 dX5_figure_77 (by decide) (fun c_77 => ?_) (fun c_77 => ?_))))
            · rw [k3_0 hk] at c_77
              refine z_iload3 dX5_figure_85 (z_iconst (v := 3) dX5_figure_86 (by decide) (z_irem dX5_figure_87 (by decide) (z_iconst (v := 1) dX5_figure_88 (by decide) (z_icmp_ne 96 dX5_figure_89 (by decide) (fun c_89 => ?_) (fun c_89 => ?_)))))
              · rw [k3_1 hk] at c_89
                refine z_iconst (v := 1) dX5_figure_96 (by decide) ?_
                exact j97 w 1 hw (by rw [if_neg c_77, if_neg c_89])
              · rw [k3_1 hk] at c_89
                refine z_iconst (v := 3) dX5_figure_92 (by decide) (z_goto 97 dX5_figure_93 (by decide) ?_)
                exact j97 w 3 hw (by rw [if_neg c_77, if_pos c_89])
            · rw [k3_0 hk] at c_77
              refine z_bipush (v := 7) dX5_figure_80 (by decide) (z_goto 97 dX5_figure_82 (by decide) ?_)
              exact j97 w 7 hw (by rw [if_pos c_77])
          refine z_iload3 dX5_figure_35 (z_bipush (v := 24) dX5_figure_36 (by decide) (z_icmp_ge 106 dX5_figure_38 (by decide) (fun c => absurd c (lpf (n := 24) rfl hk (by decide))) (fun _ => z_aload0 dX5_figure_41 (z_getP (v := some (83, 0)) fl_X5_64 dX5_figure_42 rfl rfl (hM 32 rfl) (z_bipush (v := 24) dX5_figure_45 (by decide) (z_iload1 dX5_figure_47 (z_imul dX5_figure_48 (z_iload3 dX5_figure_49 (z_iadd dX5_figure_50 (z_ialdv dX5_figure_51 rfl ⟨i24 x k, (show 24 * x + k < 1920 by omega), Nat.le_of_ble_eq_true rfl⟩ (hR.col 37 _ (by decide)) (z_istore4 dX5_figure_52 (z_iload2 dX5_figure_54 (z_iload4 dX5_figure_55 (z_bipush (v := 60) dX5_figure_57 (by decide) (z_icmp_ne 66 dX5_figure_59 (by decide) (fun c_59 => ?_) (fun c_59 => ?_))))))))))))))))
          · refine z_iload4 dX5_figure_66 (z_bipush (v := 65) dX5_figure_68 (by decide) (z_isub dX5_figure_70 (z_bipush (v := 10) dX5_figure_71 (by decide) (z_iadd dX5_figure_73 ?_))))
            exact j74 _ (by rw [if_neg c_59])
          · refine z_iconst (v := 0) dX5_figure_62 (by decide) (z_goto 74 dX5_figure_63 (by decide) ?_)
            exact j74 0 (by rw [if_pos c_59])
      exact lp 0 (by decide) none
  · rw [if_pos h1] at h
    refine z_aload0 dX5_figure_0 (z_iconst (v := 0) dX5_figure_1 (by decide) (z_putI fl_X5_178 dX5_figure_2 rfl rfl ⟨rfl, rfl⟩ (z_aload0 dX5_figure_5 (z_aload0 dX5_figure_6 (z_iload1 dX5_figure_7 (z_invV1 (md_X5_nobody _) cv_X5_385 rfl dX5_figure_8 rfl (by decide) (Rm.ofB rfl) (M_nobodyT hR h1 (z_iconst (v := 1) dX5_figure_11 (by decide) (z_invV2 (md_X5_throwsIf _) cv_X5_321 rfl dX5_figure_12 rfl (by decide) (Rm.ofB rfl) (M_thrT (z_if_eq 20 dX5_figure_15 (by decide) (fun c => absurd c (n10)) (fun _ => z_iconst (v := 0) dX5_figure_18 (by decide) (z_ireturn dX5_figure_19 rfl (by decide) (by decide) ?_)))))))))))))
    exact h _ hT.th (Fm.rf.sI.sI) (by simp [gI_sI])
end M9
