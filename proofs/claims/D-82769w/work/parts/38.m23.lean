/-! Model: judge, ask -/
section M23
variable {μ μ' : Mem} {Q : Res → Mem → Prop} {σ : Sg} {Λ : Lws}
theorem M_noAskT {x y : Int32} (hR : RepM σ μ) (hc : ¬ isK σ x y) (h : Q (rI 1) μ) : Ct RX5 cX5_noAsk (3, some .boolean, [], false, rmm 2 0 0) [vr 50 0, vi x, vi y] μ Q := M_noAsk hR (by
  by_cases q1 : 0 ≤ x ∧ x ≤ 3
  · rw [decide_eq_true q1, decide_eq_false (fun q2 => hc ⟨q1, q2⟩)]; exact h
  · rw [decide_eq_false q1]; exact h)
theorem M_noAskF {x y : Int32} (hR : RepM σ μ) (hc : isK σ x y) (h : Q (rI 0) μ) : Ct RX5 cX5_noAsk (3, some .boolean, [], false, rmm 2 0 0) [vr 50 0, vi x, vi y] μ Q := M_noAsk hR (by rw [decide_eq_true hc.1, decide_eq_true hc.2]; exact h)
theorem jS_see (φ : Nat → Int32) (l : List Cl3) : ∀ k, (jLn φ l k).2.2.2.2.2 = 0 ∨ (jLn φ l k).2.2.2.2.2 = 1
  | 0 => Or.inl rfl
  | k + 1 => by
    rw [jLn, jStp]
    have := jS_see φ l k
    split
    · split
      · exact this
      · split
        · exact this
        · split
          · exact this
          · split
            · exact this
            · split
              · exact Or.inr rfl
              · exact this
    · exact this
theorem rul_see (σ : Sg) (Λ : Lws) (x : Nat) (k w : Int32) (u : Bool) : (rulF σ Λ x k w u).2.2.2.2.2 = 0 ∨ (rulF σ Λ x k w u).2.2.2.2.2 = 1 := by
  unfold rulF yrF
  split
  · exact Or.inl rfl
  · exact jS_see _ _ _
theorem P_judge {p kind wanted w : Int32} {u : Bool} (hI : TM σ Λ μ) {np nb L : Nat} (hn : σ 34 1 = nI np) (hn2 : np ≤ 80) (hb : σ 7 4 = nI nb) (hb2 : nb ≤ 150) (hL : σ 34 0 = nI L) (hL2 : L ≤ 12) (hE : EvOK σ Λ) (hage : ∀ x, x < np → 0 ≤ σ 7 0 - σ 24 x)
    (h : ∀ μ', TM (pJudge σ Λ p kind wanted u w).1 Λ μ' → Fm μ μ' → gI μ' 50 0 0 = (pJudge σ Λ p kind wanted u w).2.1 → Q (rI (pJudge σ Λ p kind wanted u w).2.2) μ') : Ct RX5 cX5_judge (6, some .int, [], false, rmm 3 0 0) [vr 50 0, vi p, vi kind, vi wanted, vi (bI u), vi w] μ Q := by
  refine Ct.of (ls := [some (vr 50 0), some (vi p), some (vi kind), some (vi wanted), some (vi (bI u)), some (vi w)]) rfl fun Γ C ad => ?_
  have hT := hI.th (v := 0)
  have hR := hT.2.1
  unfold pJudge at h
  by_cases h1 : isP σ p
  · rw [if_neg (nn h1)] at h
    by_cases h2 : isK σ kind wanted
    · rw [if_neg (nn h2)] at h
      by_cases h3 : 0 ≤ w ∧ w ≤ 5
      · rw [if_neg (nn h3)] at h
        obtain ⟨x, hx, ex⟩ := lt_nI hn (by omega) h1
        rw [ex, tn_nI (by omega)] at h
        dsimp only at h
        refine z_aload0 dX5_judge_0 (z_iconst (v := 0) dX5_judge_1 (by decide) (z_putI fl_X5_178 dX5_judge_2 rfl rfl ⟨rfl, rfl⟩ (z_aload0 dX5_judge_5 (z_aload0 dX5_judge_6 (z_iload1 dX5_judge_7 (z_invV1 (md_X5_nobody _) cv_X5_385 rfl dX5_judge_8 rfl (Nat.le_of_ble_eq_true rfl) (Rm.ofB rfl) (M_nobodyF hR h1 (z_iconst (v := 1) dX5_judge_11 (by decide) (z_invV2 (md_X5_throwsIf _) cv_X5_321 rfl dX5_judge_12 rfl (Nat.le_of_ble_eq_true rfl) (Rm.ofB rfl) (M_thrF (z_if_ne 55 dX5_judge_15 (by decide) (fun c => absurd (rfl) c) (fun _ => z_aload0 dX5_judge_18 (z_aload0 dX5_judge_19 (z_iload2 dX5_judge_20 (z_iload3 dX5_judge_21 (z_invV2 (md_X5_noAsk _) cv_X5_418 rfl dX5_judge_22 rfl (Nat.le_of_ble_eq_true rfl) (Rm.ofB rfl) (M_noAskF hR h2 (z_iconst (v := 2) dX5_judge_25 (by decide) (z_invV2 (md_X5_throwsIf _) cv_X5_321 rfl dX5_judge_26 rfl (Nat.le_of_ble_eq_true rfl) (Rm.ofB rfl) (M_thrF (z_if_ne 55 dX5_judge_29 (by decide) (fun c => absurd (rfl) c) (fun _ => z_aload0 dX5_judge_32 (z_iload5 dX5_judge_33 (z_iconst (v := 0) dX5_judge_35 (by decide) (z_iconst (v := 5) dX5_judge_36 (by decide) (z_invS3 (md_X5_in _) cs_X5_317 dX5_judge_37 rfl (Nat.le_of_ble_eq_true rfl) (Rm.ofB rfl) (M_inT h3 (z_if_ne 47 dX5_judge_40 (by decide) (fun _ => z_iconst (v := 0) dX5_judge_47 (by decide) (z_iconst (v := 3) dX5_judge_48 (by decide) (z_invV2 (md_X5_throwsIf _) cv_X5_321 rfl dX5_judge_49 rfl (Nat.le_of_ble_eq_true rfl) (Rm.ofB rfl) (M_thrF (z_if_eq 57 dX5_judge_52 (by decide) (fun _ => z_aload0 dX5_judge_57 (z_iload1 dX5_judge_58 (z_iload2 dX5_judge_59 (z_iload3 dX5_judge_60 (z_iload4 dX5_judge_61 (z_invV4 (md_X5_judges _) cv_X5_421 rfl dX5_judge_63 rfl (Nat.le_of_ble_eq_true rfl) (Rm.ofB rfl) (M_judges hT ex (by omega) h2.1 hb hb2 hL hL2 hE (hage x hx) (fun μ1 T1 F1 z1 J1 => ?_)))))))) (fun c => absurd (rfl) c)))))) (fun c => absurd c (n10))))))))))))))))))))))))))))))
        obtain ⟨j1, j2, j3, j4, j5, j6⟩ := J1
        have h' := h μ1 T1 (Fm.rf.sI.tr F1) (z1.trans (by simp [gI_sI]))
        have hsee := rul_see σ Λ x kind wanted u
        obtain ⟨j, hj, ej⟩ := in_nI (n := 5) h3 rfl
        subst ej
        match j, hj with
        | 0, _ =>
          refine z_iload5 dX5_judge_66 (z_tabIn 104 dX5_judge_68 (by decide) (by decide) rfl (by decide) (z_aload0 dX5_judge_104 (z_getI fl_X5_340 dX5_judge_105 rfl rfl (z_ireturn dX5_judge_108 rfl (Nat.le_of_ble_eq_true rfl) (Nat.le_of_ble_eq_true rfl) ?_))))
          rw [j1]; exact h'
        | 1, _ =>
          refine z_iload5 dX5_judge_66 (z_tabIn 109 dX5_judge_68 (by decide) (by decide) rfl (by decide) (z_aload0 dX5_judge_109 (z_getI fl_X5_343 dX5_judge_110 rfl rfl (z_ireturn dX5_judge_113 rfl (Nat.le_of_ble_eq_true rfl) (Nat.le_of_ble_eq_true rfl) ?_))))
          rw [j2]; exact h'
        | 2, _ =>
          refine z_iload5 dX5_judge_66 (z_tabIn 114 dX5_judge_68 (by decide) (by decide) rfl (by decide) (z_aload0 dX5_judge_114 (z_getI fl_X5_346 dX5_judge_115 rfl rfl (z_ireturn dX5_judge_118 rfl (Nat.le_of_ble_eq_true rfl) (Nat.le_of_ble_eq_true rfl) ?_))))
          rw [j3]; exact h'
        | 3, _ =>
          refine z_iload5 dX5_judge_66 (z_tabIn 119 dX5_judge_68 (by decide) (by decide) rfl (by decide) (z_aload0 dX5_judge_119 (z_getI fl_X5_349 dX5_judge_120 rfl rfl (z_ireturn dX5_judge_123 rfl (Nat.le_of_ble_eq_true rfl) (Nat.le_of_ble_eq_true rfl) ?_))))
          rw [j4]; exact h'
        | 4, _ =>
          have h'' : Q (rI (rulF σ Λ x kind wanted u).2.2.2.2.2) μ1 := h'
          rcases hsee with q | q
          · refine z_iload5 dX5_judge_66 (z_tabIn 124 dX5_judge_68 (by decide) (by decide) rfl (by decide) (z_aload0 dX5_judge_124 (z_getI fl_X5_355 dX5_judge_125 rfl rfl (z_if_eq 135 dX5_judge_128 (by decide) (fun _ => z_iconst (v := 0) dX5_judge_135 (by decide) (z_ireturn dX5_judge_136 rfl (Nat.le_of_ble_eq_true rfl) (Nat.le_of_ble_eq_true rfl) ?_)) (fun c => absurd ((by rw [j6, q])) c)))))
            rw [q] at h''; exact h''
          · refine z_iload5 dX5_judge_66 (z_tabIn 124 dX5_judge_68 (by decide) (by decide) rfl (by decide) (z_aload0 dX5_judge_124 (z_getI fl_X5_355 dX5_judge_125 rfl rfl (z_if_eq 135 dX5_judge_128 (by decide) (fun c => absurd c ((by rw [j6, q]; decide))) (fun _ => z_iconst (v := 1) dX5_judge_131 (by decide) (z_goto 136 dX5_judge_132 (by decide) (z_ireturn dX5_judge_136 rfl (Nat.le_of_ble_eq_true rfl) (Nat.le_of_ble_eq_true rfl) ?_)))))))
            rw [q] at h''; exact h''
        | 5, _ =>
          refine z_iload5 dX5_judge_66 (z_tabOut 137 dX5_judge_68 (by decide) (by decide) (z_aload0 dX5_judge_137 (z_getI fl_X5_352 dX5_judge_138 rfl rfl (z_ireturn dX5_judge_141 rfl (Nat.le_of_ble_eq_true rfl) (Nat.le_of_ble_eq_true rfl) ?_))))
          rw [j5]; exact h'
        | j + 6, hj => omega
      · rw [if_pos h3] at h
        refine z_aload0 dX5_judge_0 (z_iconst (v := 0) dX5_judge_1 (by decide) (z_putI fl_X5_178 dX5_judge_2 rfl rfl ⟨rfl, rfl⟩ (z_aload0 dX5_judge_5 (z_aload0 dX5_judge_6 (z_iload1 dX5_judge_7 (z_invV1 (md_X5_nobody _) cv_X5_385 rfl dX5_judge_8 rfl (Nat.le_of_ble_eq_true rfl) (Rm.ofB rfl) (M_nobodyF hR h1 (z_iconst (v := 1) dX5_judge_11 (by decide) (z_invV2 (md_X5_throwsIf _) cv_X5_321 rfl dX5_judge_12 rfl (Nat.le_of_ble_eq_true rfl) (Rm.ofB rfl) (M_thrF (z_if_ne 55 dX5_judge_15 (by decide) (fun c => absurd (rfl) c) (fun _ => z_aload0 dX5_judge_18 (z_aload0 dX5_judge_19 (z_iload2 dX5_judge_20 (z_iload3 dX5_judge_21 (z_invV2 (md_X5_noAsk _) cv_X5_418 rfl dX5_judge_22 rfl (Nat.le_of_ble_eq_true rfl) (Rm.ofB rfl) (M_noAskF hR h2 (z_iconst (v := 2) dX5_judge_25 (by decide) (z_invV2 (md_X5_throwsIf _) cv_X5_321 rfl dX5_judge_26 rfl (Nat.le_of_ble_eq_true rfl) (Rm.ofB rfl) (M_thrF (z_if_ne 55 dX5_judge_29 (by decide) (fun c => absurd (rfl) c) (fun _ => z_aload0 dX5_judge_32 (z_iload5 dX5_judge_33 (z_iconst (v := 0) dX5_judge_35 (by decide) (z_iconst (v := 5) dX5_judge_36 (by decide) (z_invS3 (md_X5_in _) cs_X5_317 dX5_judge_37 rfl (Nat.le_of_ble_eq_true rfl) (Rm.ofB rfl) (M_inF h3 (z_if_ne 47 dX5_judge_40 (by decide) (fun c => absurd (rfl) c) (fun _ => z_iconst (v := 1) dX5_judge_43 (by decide) (z_goto 48 dX5_judge_44 (by decide) (z_iconst (v := 3) dX5_judge_48 (by decide) (z_invV2 (md_X5_throwsIf _) cv_X5_321 rfl dX5_judge_49 rfl (Nat.le_of_ble_eq_true rfl) (Rm.ofB rfl) (M_thrT (z_if_eq 57 dX5_judge_52 (by decide) (fun c => absurd c (n10)) (fun _ => z_iconst (v := 0) dX5_judge_55 (by decide) (z_ireturn dX5_judge_56 rfl (Nat.le_of_ble_eq_true rfl) (Nat.le_of_ble_eq_true rfl) ?_))))))))))))))))))))))))))))))))))))
        exact h _ hT.th (Fm.rf.sI.sI) (by simp [gI_sI])
    · rw [if_pos h2] at h
      refine z_aload0 dX5_judge_0 (z_iconst (v := 0) dX5_judge_1 (by decide) (z_putI fl_X5_178 dX5_judge_2 rfl rfl ⟨rfl, rfl⟩ (z_aload0 dX5_judge_5 (z_aload0 dX5_judge_6 (z_iload1 dX5_judge_7 (z_invV1 (md_X5_nobody _) cv_X5_385 rfl dX5_judge_8 rfl (Nat.le_of_ble_eq_true rfl) (Rm.ofB rfl) (M_nobodyF hR h1 (z_iconst (v := 1) dX5_judge_11 (by decide) (z_invV2 (md_X5_throwsIf _) cv_X5_321 rfl dX5_judge_12 rfl (Nat.le_of_ble_eq_true rfl) (Rm.ofB rfl) (M_thrF (z_if_ne 55 dX5_judge_15 (by decide) (fun c => absurd (rfl) c) (fun _ => z_aload0 dX5_judge_18 (z_aload0 dX5_judge_19 (z_iload2 dX5_judge_20 (z_iload3 dX5_judge_21 (z_invV2 (md_X5_noAsk _) cv_X5_418 rfl dX5_judge_22 rfl (Nat.le_of_ble_eq_true rfl) (Rm.ofB rfl) (M_noAskT hR h2 (z_iconst (v := 2) dX5_judge_25 (by decide) (z_invV2 (md_X5_throwsIf _) cv_X5_321 rfl dX5_judge_26 rfl (Nat.le_of_ble_eq_true rfl) (Rm.ofB rfl) (M_thrT (z_if_ne 55 dX5_judge_29 (by decide) (fun _ => z_iconst (v := 0) dX5_judge_55 (by decide) (z_ireturn dX5_judge_56 rfl (Nat.le_of_ble_eq_true rfl) (Nat.le_of_ble_eq_true rfl) ?_)) (fun c => absurd c (n10)))))))))))))))))))))))
      exact h _ hT.th (Fm.rf.sI.sI) (by simp [gI_sI])
  · rw [if_pos h1] at h
    refine z_aload0 dX5_judge_0 (z_iconst (v := 0) dX5_judge_1 (by decide) (z_putI fl_X5_178 dX5_judge_2 rfl rfl ⟨rfl, rfl⟩ (z_aload0 dX5_judge_5 (z_aload0 dX5_judge_6 (z_iload1 dX5_judge_7 (z_invV1 (md_X5_nobody _) cv_X5_385 rfl dX5_judge_8 rfl (Nat.le_of_ble_eq_true rfl) (Rm.ofB rfl) (M_nobodyT hR h1 (z_iconst (v := 1) dX5_judge_11 (by decide) (z_invV2 (md_X5_throwsIf _) cv_X5_321 rfl dX5_judge_12 rfl (Nat.le_of_ble_eq_true rfl) (Rm.ofB rfl) (M_thrT (z_if_ne 55 dX5_judge_15 (by decide) (fun _ => z_iconst (v := 0) dX5_judge_55 (by decide) (z_ireturn dX5_judge_56 rfl (Nat.le_of_ble_eq_true rfl) (Nat.le_of_ble_eq_true rfl) ?_)) (fun c => absurd c (n10)))))))))))))
    exact h _ hT.th (Fm.rf.sI.sI) (by simp [gI_sI])
theorem narZ {x : Int32} (h : x = 0 ∨ x = 1) : narrow .boolean (.int x) = .int x := by rcases h with rfl | rfl <;> rfl
set_option maxRecDepth 8000 in
set_option maxHeartbeats 1000000 in
theorem P_ask {p kind wanted items : Int32} {u : Bool} (hI : TM σ Λ μ) {np n nb L : Nat} (hn : σ 34 1 = nI np) (hn2 : np ≤ 80) (ha : σ 34 2 = nI n) (ha2 : n ≤ 120) (hb : σ 7 4 = nI nb) (hb2 : nb ≤ 150) (hL : σ 34 0 = nI L) (hL2 : L ≤ 12) (hE : EvOK σ Λ) (hage : ∀ x, x < np → 0 ≤ σ 7 0 - σ 24 x)
    (h : ∀ μ', TM (pAsk σ Λ p kind wanted items u).1 Λ μ' → Fm μ μ' → gI μ' 50 0 0 = (pAsk σ Λ p kind wanted items u).2.1 → Q (rI (pAsk σ Λ p kind wanted items u).2.2) μ') : Ct RX5 cX5_ask (7, some .int, [], false, rmm 3 0 0) [vr 50 0, vi p, vi kind, vi wanted, vi items, vi (bI u)] μ Q := by
  refine Ct.of (ls := [some (vr 50 0), some (vi p), some (vi kind), some (vi wanted), some (vi items), some (vi (bI u)), none]) rfl fun Γ C ad => ?_
  have hT := hI.th (v := 0)
  have hR := hT.2.1
  unfold pAsk at h
  by_cases h1 : isP σ p
  · rw [if_neg (nn h1)] at h
    have no : ¬ (isK σ kind wanted ∧ (0 ≤ items ∧ items ≤ 255)) → Z RX5 cX5_ask (7, some .int, [], false, rmm 3 0 0) (Γ, C, μ, ad, Q) (0) (0) (sI μ 50 0 0 0) 40 [some (vr 50 0), some (vi p), some (vi kind), some (vi wanted), some (vi items), some (vi (bI u)), none] [vr 50 0] := by
      intro q
      rw [if_pos q] at h
      refine z_iconst (v := 1) dX5_ask_40 (by decide) (z_goto 45 dX5_ask_41 (by decide) (z_iconst (v := 2) dX5_ask_45 (by decide) (z_invV2 (md_X5_throwsIf _) cv_X5_321 rfl dX5_ask_46 rfl (Nat.le_of_ble_eq_true rfl) (Rm.ofB rfl) (M_thrT (z_if_ne 74 dX5_ask_49 (by decide) (fun _ => z_iconst (v := 0) dX5_ask_74 (by decide) (z_ireturn dX5_ask_75 rfl (Nat.le_of_ble_eq_true rfl) (Nat.le_of_ble_eq_true rfl) ?_)) (fun c => absurd c (n10)))))))
      exact h _ hT.th (Fm.rf.sI.sI) (by simp [gI_sI])
    by_cases h2 : isK σ kind wanted
    · by_cases h3 : 0 ≤ items ∧ items ≤ 255
      · rw [if_neg (nn ⟨h2, h3⟩)] at h
        by_cases h4 : σ 34 2 = 120
        · rw [if_pos h4] at h
          refine z_aload0 dX5_ask_0 (z_iconst (v := 0) dX5_ask_1 (by decide) (z_putI fl_X5_178 dX5_ask_2 rfl rfl ⟨rfl, rfl⟩ (z_aload0 dX5_ask_5 (z_aload0 dX5_ask_6 (z_iload1 dX5_ask_7 (z_invV1 (md_X5_nobody _) cv_X5_385 rfl dX5_ask_8 rfl (Nat.le_of_ble_eq_true rfl) (Rm.ofB rfl) (M_nobodyF hR h1 (z_iconst (v := 1) dX5_ask_11 (by decide) (z_invV2 (md_X5_throwsIf _) cv_X5_321 rfl dX5_ask_12 rfl (Nat.le_of_ble_eq_true rfl) (Rm.ofB rfl) (M_thrF (z_if_ne 74 dX5_ask_15 (by decide) (fun c => absurd (rfl) c) (fun _ => z_aload0 dX5_ask_18 (z_aload0 dX5_ask_19 (z_iload2 dX5_ask_20 (z_iload3 dX5_ask_21 (z_invV2 (md_X5_noAsk _) cv_X5_418 rfl dX5_ask_22 rfl (Nat.le_of_ble_eq_true rfl) (Rm.ofB rfl) (M_noAskF hR h2 (z_if_ne 40 dX5_ask_25 (by decide) (fun c => absurd (rfl) c) (fun _ => z_iload4 dX5_ask_28 (z_iconst (v := 0) dX5_ask_30 (by decide) (z_sipush (v := 255) dX5_ask_31 (by decide) (z_invS3 (md_X5_in _) cs_X5_317 dX5_ask_34 rfl (Nat.le_of_ble_eq_true rfl) (Rm.ofB rfl) (M_inT h3 (z_if_ne 44 dX5_ask_37 (by decide) (fun _ => z_iconst (v := 0) dX5_ask_44 (by decide) (z_iconst (v := 2) dX5_ask_45 (by decide) (z_invV2 (md_X5_throwsIf _) cv_X5_321 rfl dX5_ask_46 rfl (Nat.le_of_ble_eq_true rfl) (Rm.ofB rfl) (M_thrF (z_if_ne 74 dX5_ask_49 (by decide) (fun c => absurd (rfl) c) (fun _ => z_aload0 dX5_ask_52 (z_aload0 dX5_ask_53 (z_getIv fl_X5_412 dX5_ask_54 rfl rfl (hR.s34 2 (by decide)) (z_bipush (v := 120) dX5_ask_57 (by decide) (z_icmp_ne 66 dX5_ask_59 (by decide) (fun c => absurd (h4) c) (fun _ => z_iconst (v := 1) dX5_ask_62 (by decide) (z_goto 67 dX5_ask_63 (by decide) (z_iconst (v := 3) dX5_ask_67 (by decide) (z_invV2 (md_X5_throwsIf _) cv_X5_321 rfl dX5_ask_68 rfl (Nat.le_of_ble_eq_true rfl) (Rm.ofB rfl) (M_thrT (z_if_eq 76 dX5_ask_71 (by decide) (fun c => absurd c (n10)) (fun _ => z_iconst (v := 0) dX5_ask_74 (by decide) (z_ireturn dX5_ask_75 rfl (Nat.le_of_ble_eq_true rfl) (Nat.le_of_ble_eq_true rfl) ?_)))))))))))))))))) (fun c => absurd c (n10))))))))))))))))))))))))))
          exact h _ hT.th (Fm.rf.sI.sI) (by simp [gI_sI])
        · rw [if_neg h4] at h
          obtain ⟨x, hx, ex⟩ := lt_nI hn (by omega) h1
          have ep : tn p = x := by rw [ex, tn_nI (by omega)]
          have ea : tn (σ 34 2) = n := by rw [ha, tn_nI (by omega)]
          rw [ep, ea] at h
          have hlt : n < 120 := by
            rcases Nat.lt_or_ge n 120 with q | q
            · exact q
            · exact absurd (by rw [ha, show n = 120 by omega]; rfl) h4
          refine z_aload0 dX5_ask_0 (z_iconst (v := 0) dX5_ask_1 (by decide) (z_putI fl_X5_178 dX5_ask_2 rfl rfl ⟨rfl, rfl⟩ (z_aload0 dX5_ask_5 (z_aload0 dX5_ask_6 (z_iload1 dX5_ask_7 (z_invV1 (md_X5_nobody _) cv_X5_385 rfl dX5_ask_8 rfl (Nat.le_of_ble_eq_true rfl) (Rm.ofB rfl) (M_nobodyF hR h1 (z_iconst (v := 1) dX5_ask_11 (by decide) (z_invV2 (md_X5_throwsIf _) cv_X5_321 rfl dX5_ask_12 rfl (Nat.le_of_ble_eq_true rfl) (Rm.ofB rfl) (M_thrF (z_if_ne 74 dX5_ask_15 (by decide) (fun c => absurd (rfl) c) (fun _ => z_aload0 dX5_ask_18 (z_aload0 dX5_ask_19 (z_iload2 dX5_ask_20 (z_iload3 dX5_ask_21 (z_invV2 (md_X5_noAsk _) cv_X5_418 rfl dX5_ask_22 rfl (Nat.le_of_ble_eq_true rfl) (Rm.ofB rfl) (M_noAskF hR h2 (z_if_ne 40 dX5_ask_25 (by decide) (fun c => absurd (rfl) c) (fun _ => z_iload4 dX5_ask_28 (z_iconst (v := 0) dX5_ask_30 (by decide) (z_sipush (v := 255) dX5_ask_31 (by decide) (z_invS3 (md_X5_in _) cs_X5_317 dX5_ask_34 rfl (Nat.le_of_ble_eq_true rfl) (Rm.ofB rfl) (M_inT h3 (z_if_ne 44 dX5_ask_37 (by decide) (fun _ => z_iconst (v := 0) dX5_ask_44 (by decide) (z_iconst (v := 2) dX5_ask_45 (by decide) (z_invV2 (md_X5_throwsIf _) cv_X5_321 rfl dX5_ask_46 rfl (Nat.le_of_ble_eq_true rfl) (Rm.ofB rfl) (M_thrF (z_if_ne 74 dX5_ask_49 (by decide) (fun c => absurd (rfl) c) (fun _ => z_aload0 dX5_ask_52 (z_aload0 dX5_ask_53 (z_getIv fl_X5_412 dX5_ask_54 rfl rfl (hR.s34 2 (by decide)) (z_bipush (v := 120) dX5_ask_57 (by decide) (z_icmp_ne 66 dX5_ask_59 (by decide) (fun _ => z_iconst (v := 0) dX5_ask_66 (by decide) (z_iconst (v := 3) dX5_ask_67 (by decide) (z_invV2 (md_X5_throwsIf _) cv_X5_321 rfl dX5_ask_68 rfl (Nat.le_of_ble_eq_true rfl) (Rm.ofB rfl) (M_thrF (z_if_eq 76 dX5_ask_71 (by decide) (fun _ => z_aload0 dX5_ask_76 (z_iload1 dX5_ask_77 (z_iload2 dX5_ask_78 (z_iload3 dX5_ask_79 (z_iload5 dX5_ask_80 (z_invV4 (md_X5_judges _) cv_X5_421 rfl dX5_ask_82 rfl (Nat.le_of_ble_eq_true rfl) (Rm.ofB rfl) (M_judges hT ex (by omega) h2.1 hb hb2 hL hL2 hE (hage x hx) (fun μ1 T1 F1 z1 J1 => ?_)))))))) (fun c => absurd (rfl) c)))))) (fun c => absurd c (h4)))))))))))) (fun c => absurd c (n10))))))))))))))))))))))))))
          obtain ⟨j1, j2, j3, j4, j5, j6⟩ := J1
          have hsee := rul_see σ Λ x kind wanted u
          generalize rulF σ Λ x kind wanted u = r at *
          have hR1 := T1.2.1
          have hM1 := T1.1
          have z0 : gI μ1 50 0 0 = 0 := z1.trans (by simp [gI_sI])
          have ix : Ix (σ 34 2) n 120 := ⟨ha, hlt, by decide⟩
          have A1 := T1.s34 2 (σ 34 2 + 1) (by decide)
          have A2 := A1.sc 12 n p (by decide)
          have A3 := A2.sc 13 n kind (by decide)
          have A4 := A3.sc 14 n (σ 7 0) (by decide)
          have A5 := A4.sc 15 n wanted (by decide)
          have A6 := A5.sc 23 n items (by decide)
          have A7 := A6.sc 16 n (bI u) (by decide)
          have A8 := A7.sc 17 n r.1 (by decide)
          have A9 := A8.sc 18 n r.2.1 (by decide)
          have A10 := A9.sc 19 n r.2.2.1 (by decide)
          have A11 := A10.sc 20 n r.2.2.2.1 (by decide)
          have A12 := A11.sc 21 n r.2.2.2.2.2 (by decide)
          have A13 := A12.sc 22 n r.2.2.2.2.1 (by decide)
          have A14 := A13.sc 0 n 0 (by decide)
          have A15 := A14.sc 1 n (-1) (by decide)
          have A16 := A15.sc 2 n (-1) (by decide)
          have A17 := A16.sc 3 n (-1) (by decide)
          have A18 := A17.sc 4 n (-1) (by decide)
          have A19 := A18.s34 12 (σ 34 12 + r.2.1) (by decide)
          have hM2 := A1.1
          refine z_aload0 dX5_ask_85 (z_getIv fl_X5_412 dX5_ask_86 rfl rfl (hR1.s34 2 (by decide)) (z_istore6 dX5_ask_89 ?_))
          refine z_aload0 dX5_ask_91 (z_dupa dX5_ask_92 (z_getIv fl_X5_412 dX5_ask_93 rfl rfl (hR1.s34 2 (by decide)) (z_iconst (v := 1) dX5_ask_96 (by decide) (z_iadd dX5_ask_97 (z_putI fl_X5_412 dX5_ask_98 rfl rfl ⟨rfl, rfl⟩ (z_aload0 dX5_ask_101 (z_getP (v := some (104, 0)) fl_X5_112 dX5_ask_102 rfl rfl (hM1 53 rfl) (z_iload6 dX5_ask_105 (z_iload1 dX5_ask_107 (z_iast dX5_ask_108 rfl ix (z_aload0 dX5_ask_109 (z_getP (v := some (105, 0)) fl_X5_115 dX5_ask_110 rfl rfl (hM1 54 rfl) (z_iload6 dX5_ask_113 (z_iload2 dX5_ask_115 (z_iast dX5_ask_116 rfl ix (z_aload0 dX5_ask_117 (z_getP (v := some (106, 0)) fl_X5_118 dX5_ask_118 rfl rfl (hM1 55 rfl) (z_iload6 dX5_ask_121 (z_aload0 dX5_ask_123 (z_getIv fl_X5_314 dX5_ask_124 rfl rfl (hR1.s7 0 (by decide)) (z_iast dX5_ask_127 rfl ix (z_aload0 dX5_ask_128 (z_getP (v := some (107, 0)) fl_X5_121 dX5_ask_129 rfl rfl (hM1 56 rfl) (z_iload6 dX5_ask_132 (z_iload3 dX5_ask_134 (z_iast dX5_ask_135 rfl ix (z_aload0 dX5_ask_136 (z_getP (v := some (108, 0)) fl_X5_124 dX5_ask_137 rfl rfl (hM1 57 rfl) (z_iload6 dX5_ask_140 (z_iload4 dX5_ask_142 (z_iast dX5_ask_144 rfl ix (z_aload0 dX5_ask_145 (z_getP (v := some (109, 0)) fl_X5_127 dX5_ask_146 rfl rfl (hM1 58 rfl) (z_iload6 dX5_ask_149 (z_iload5 dX5_ask_151 (z_zast dX5_ask_153 rfl ix (bI_nar u) ?_))))))))))))))))))))))))))))))))))))
          refine z_aload0 dX5_ask_154 (z_getP (v := some (110, 0)) fl_X5_130 dX5_ask_155 rfl rfl (hM1 59 rfl) (z_iload6 dX5_ask_158 (z_aload0 dX5_ask_160 (z_getIv fl_X5_340 dX5_ask_161 rfl rfl (j1) (z_iast dX5_ask_164 rfl ix (z_aload0 dX5_ask_165 (z_getP (v := some (111, 0)) fl_X5_133 dX5_ask_166 rfl rfl (hM1 60 rfl) (z_iload6 dX5_ask_169 (z_aload0 dX5_ask_171 (z_getIv fl_X5_343 dX5_ask_172 rfl rfl (j2) (z_iast dX5_ask_175 rfl ix (z_aload0 dX5_ask_176 (z_getP (v := some (112, 0)) fl_X5_136 dX5_ask_177 rfl rfl (hM1 61 rfl) (z_iload6 dX5_ask_180 (z_aload0 dX5_ask_182 (z_getIv fl_X5_346 dX5_ask_183 rfl rfl (j3) (z_iast dX5_ask_186 rfl ix (z_aload0 dX5_ask_187 (z_getP (v := some (113, 0)) fl_X5_139 dX5_ask_188 rfl rfl (hM1 62 rfl) (z_iload6 dX5_ask_191 (z_aload0 dX5_ask_193 (z_getIv fl_X5_349 dX5_ask_194 rfl rfl (j4) (z_iast dX5_ask_197 rfl ix (z_aload0 dX5_ask_198 (z_getP (v := some (114, 0)) fl_X5_142 dX5_ask_199 rfl rfl (hM1 63 rfl) (z_iload6 dX5_ask_202 (z_aload0 dX5_ask_204 (z_getIv fl_X5_355 dX5_ask_205 rfl rfl (j6) (z_zast dX5_ask_208 rfl ix (narZ hsee) (z_aload0 dX5_ask_209 (z_getP (v := some (115, 0)) fl_X5_145 dX5_ask_210 rfl rfl (hM1 64 rfl) (z_iload6 dX5_ask_213 (z_aload0 dX5_ask_215 (z_getIv fl_X5_352 dX5_ask_216 rfl rfl (j5) (z_iast dX5_ask_219 rfl ix ?_)))))))))))))))))))))))))))))))))))
          refine z_aload0 dX5_ask_220 (z_iload6 dX5_ask_221 (z_iconst (v := 0) dX5_ask_223 (by decide) (z_iconst (v := 0) dX5_ask_224 (by decide) (z_invV3 (md_X5_sets _) cv_X5_425 rfl dX5_ask_225 rfl (Nat.le_of_ble_eq_true rfl) (Rm.ofB rfl) (M_sets (w := 0) A13.1 ha rfl (by omega) (z_aload0 dX5_ask_228 (z_iload6 dX5_ask_229 (z_iconst (v := 1) dX5_ask_231 (by decide) (z_iconst (v := (-1)) dX5_ask_232 (by decide) (z_invV3 (md_X5_sets _) cv_X5_425 rfl dX5_ask_233 rfl (Nat.le_of_ble_eq_true rfl) (Rm.ofB rfl) (M_sets (w := 1) A14.1 ha rfl (by omega) (z_aload0 dX5_ask_236 (z_iload6 dX5_ask_237 (z_iconst (v := 2) dX5_ask_239 (by decide) (z_iconst (v := (-1)) dX5_ask_240 (by decide) (z_invV3 (md_X5_sets _) cv_X5_425 rfl dX5_ask_241 rfl (Nat.le_of_ble_eq_true rfl) (Rm.ofB rfl) (M_sets (w := 2) A15.1 ha rfl (by omega) (z_aload0 dX5_ask_244 (z_iload6 dX5_ask_245 (z_iconst (v := 3) dX5_ask_247 (by decide) (z_iconst (v := (-1)) dX5_ask_248 (by decide) (z_invV3 (md_X5_sets _) cv_X5_425 rfl dX5_ask_249 rfl (Nat.le_of_ble_eq_true rfl) (Rm.ofB rfl) (M_sets (w := 3) A16.1 ha rfl (by omega) (z_aload0 dX5_ask_252 (z_iload6 dX5_ask_253 (z_iconst (v := 4) dX5_ask_255 (by decide) (z_iconst (v := (-1)) dX5_ask_256 (by decide) (z_invV3 (md_X5_sets _) cv_X5_425 rfl dX5_ask_257 rfl (Nat.le_of_ble_eq_true rfl) (Rm.ofB rfl) (M_sets (w := 4) A17.1 ha rfl (by omega) (?_))))))))))))))))))))))))))))))
          refine z_aload0 dX5_ask_260 (z_dupa dX5_ask_261 (z_getIv fl_X5_428 dX5_ask_262 rfl rfl (hR1.s34 12 (by decide)) (z_aload0 dX5_ask_265 (z_getIv fl_X5_343 dX5_ask_266 rfl rfl (j2) (z_iadd dX5_ask_269 (z_putI fl_X5_428 dX5_ask_270 rfl rfl ⟨rfl, rfl⟩ (z_iload6 dX5_ask_273 (z_ireturn dX5_ask_275 rfl (Nat.le_of_ble_eq_true rfl) (Nat.le_of_ble_eq_true rfl) ?_))))))))
          have h' := h _ A19 (Fm.rf.sI.tr (F1.sI.sI.sI.sI.sI.sI.sI.sI.sI.sI.sI.sI.sI.sI.sI.sI.sI.sI.sI)) (by simp [gI_sI, mp, mpL, tT, z0])
          exact h'
      · refine z_aload0 dX5_ask_0 (z_iconst (v := 0) dX5_ask_1 (by decide) (z_putI fl_X5_178 dX5_ask_2 rfl rfl ⟨rfl, rfl⟩ (z_aload0 dX5_ask_5 (z_aload0 dX5_ask_6 (z_iload1 dX5_ask_7 (z_invV1 (md_X5_nobody _) cv_X5_385 rfl dX5_ask_8 rfl (Nat.le_of_ble_eq_true rfl) (Rm.ofB rfl) (M_nobodyF hR h1 (z_iconst (v := 1) dX5_ask_11 (by decide) (z_invV2 (md_X5_throwsIf _) cv_X5_321 rfl dX5_ask_12 rfl (Nat.le_of_ble_eq_true rfl) (Rm.ofB rfl) (M_thrF (z_if_ne 74 dX5_ask_15 (by decide) (fun c => absurd (rfl) c) (fun _ => z_aload0 dX5_ask_18 (z_aload0 dX5_ask_19 (z_iload2 dX5_ask_20 (z_iload3 dX5_ask_21 (z_invV2 (md_X5_noAsk _) cv_X5_418 rfl dX5_ask_22 rfl (Nat.le_of_ble_eq_true rfl) (Rm.ofB rfl) (M_noAskF hR h2 (z_if_ne 40 dX5_ask_25 (by decide) (fun c => absurd (rfl) c) (fun _ => z_iload4 dX5_ask_28 (z_iconst (v := 0) dX5_ask_30 (by decide) (z_sipush (v := 255) dX5_ask_31 (by decide) (z_invS3 (md_X5_in _) cs_X5_317 dX5_ask_34 rfl (Nat.le_of_ble_eq_true rfl) (Rm.ofB rfl) (M_inF h3 (z_if_ne 44 dX5_ask_37 (by decide) (fun c => absurd (rfl) c) (fun _ => ?_)))))))))))))))))))))))))
        exact no fun q => h3 q.2
    · refine z_aload0 dX5_ask_0 (z_iconst (v := 0) dX5_ask_1 (by decide) (z_putI fl_X5_178 dX5_ask_2 rfl rfl ⟨rfl, rfl⟩ (z_aload0 dX5_ask_5 (z_aload0 dX5_ask_6 (z_iload1 dX5_ask_7 (z_invV1 (md_X5_nobody _) cv_X5_385 rfl dX5_ask_8 rfl (Nat.le_of_ble_eq_true rfl) (Rm.ofB rfl) (M_nobodyF hR h1 (z_iconst (v := 1) dX5_ask_11 (by decide) (z_invV2 (md_X5_throwsIf _) cv_X5_321 rfl dX5_ask_12 rfl (Nat.le_of_ble_eq_true rfl) (Rm.ofB rfl) (M_thrF (z_if_ne 74 dX5_ask_15 (by decide) (fun c => absurd (rfl) c) (fun _ => z_aload0 dX5_ask_18 (z_aload0 dX5_ask_19 (z_iload2 dX5_ask_20 (z_iload3 dX5_ask_21 (z_invV2 (md_X5_noAsk _) cv_X5_418 rfl dX5_ask_22 rfl (Nat.le_of_ble_eq_true rfl) (Rm.ofB rfl) (M_noAskT hR h2 (z_if_ne 40 dX5_ask_25 (by decide) (fun _ => ?_) (fun c => absurd c (n10))))))))))))))))))))
      exact no fun q => h2 q.1
  · rw [if_pos h1] at h
    refine z_aload0 dX5_ask_0 (z_iconst (v := 0) dX5_ask_1 (by decide) (z_putI fl_X5_178 dX5_ask_2 rfl rfl ⟨rfl, rfl⟩ (z_aload0 dX5_ask_5 (z_aload0 dX5_ask_6 (z_iload1 dX5_ask_7 (z_invV1 (md_X5_nobody _) cv_X5_385 rfl dX5_ask_8 rfl (Nat.le_of_ble_eq_true rfl) (Rm.ofB rfl) (M_nobodyT hR h1 (z_iconst (v := 1) dX5_ask_11 (by decide) (z_invV2 (md_X5_throwsIf _) cv_X5_321 rfl dX5_ask_12 rfl (Nat.le_of_ble_eq_true rfl) (Rm.ofB rfl) (M_thrT (z_if_ne 74 dX5_ask_15 (by decide) (fun _ => z_iconst (v := 0) dX5_ask_74 (by decide) (z_ireturn dX5_ask_75 rfl (Nat.le_of_ble_eq_true rfl) (Nat.le_of_ble_eq_true rfl) ?_)) (fun c => absurd c (n10)))))))))))))
    exact h _ hT.th (Fm.rf.sI.sI) (by simp [gI_sI])
end M23
