/-! Model: the calls from outside, the tables of answers -/
theorem out_nI {w hi : Int32} {lo' hi' : Int} (h : ¬ (0 ≤ w ∧ w ≤ hi)) (h1 : (0 : Int32).toInt = lo') (h2 : hi.toInt = hi') : w.toInt < lo' ∨ hi' < w.toInt := by
  by_cases q : 0 ≤ w
  · right
    rw [← h2]
    exact Int32.lt_iff_toInt_lt.mp (Int32.not_le.mp fun z => h ⟨q, z⟩)
  · left
    rw [← h1]
    exact Int32.lt_iff_toInt_lt.mp (Int32.not_le.mp q)
section M8
variable {μ μ' : Mem} {Q : Res → Mem → Prop} {σ : Sg} {Λ : Lws}
theorem P_led {a w : Int32} (hI : TM σ Λ μ) {n : Nat} (hn : σ 34 2 = nI n) (hn2 : n ≤ 120) (h : ∀ μ', TM (pLed σ a w).1 Λ μ' → Fm μ μ' → gI μ' 50 0 0 = (pLed σ a w).2.1 → Q (rI (pLed σ a w).2.2) μ') : Ct RX5 cX5_led (3, some .int, [], false, rmm 3 0 0) [vr 50 0, vi a, vi w] μ Q := by
  refine Ct.of (ls := [some (vr 50 0), some (vi a), some (vi w)]) rfl fun Γ C ad => ?_
  have hT := hI.th (v := 0)
  have hR := hT.2.1
  have hM := hT.1
  unfold pLed at h
  by_cases h1 : isA σ a
  · rw [if_neg (nn h1)] at h
    obtain ⟨i, hi, ei⟩ := lt_nI hn (by omega) h1
    rw [ei, tn_nI (by omega)] at h
    have i120 : i < 120 := by omega
    by_cases h2 : 0 ≤ w ∧ w ≤ 15
    · rw [if_neg (nn h2)] at h
      have h' := h _ hT (Fm.rf.sI) (by simp [gI_sI])
      obtain ⟨j, hj, ej⟩ := in_nI (n := 15) h2 rfl
      subst ej
      match j, hj with
      | 0, _ =>
        refine z_aload0 dX5_led_0 (z_iconst (v := 0) dX5_led_1 (by decide) (z_putI fl_X5_178 dX5_led_2 rfl rfl ⟨rfl, rfl⟩ (z_aload0 dX5_led_5 (z_aload0 dX5_led_6 (z_iload1 dX5_led_7 (z_invV1 (md_X5_noAsking _) cv_X5_431 rfl dX5_led_8 rfl (by decide) (Rm.ofB rfl) (M_noAskingF hR h1 (z_iconst (v := 1) dX5_led_11 (by decide) (z_invV2 (md_X5_throwsIf _) cv_X5_321 rfl dX5_led_12 rfl (by decide) (Rm.ofB rfl) (M_thrF (z_if_eq 20 dX5_led_15 (by decide) (fun _ => z_iload2 dX5_led_20 (z_tabIn 100 dX5_led_21 (by decide) (by decide) rfl (by decide) (z_aload0 dX5_led_100 (z_iload1 dX5_led_101 (z_iconst (v := 0) dX5_led_102 (by decide) (z_invV2 (md_X5_now _) cv_X5_434 rfl dX5_led_103 rfl (by decide) (Rm.ofB rfl) (M_nowv (w := 0) hM ei rfl (by omega) (hR.col 0 i (by decide)) (z_ireturn dX5_led_106 rfl (by decide) (by decide) ?_)))))))) (fun c => absurd (rfl) c))))))))))))
        exact h'
      | 1, _ =>
        refine z_aload0 dX5_led_0 (z_iconst (v := 0) dX5_led_1 (by decide) (z_putI fl_X5_178 dX5_led_2 rfl rfl ⟨rfl, rfl⟩ (z_aload0 dX5_led_5 (z_aload0 dX5_led_6 (z_iload1 dX5_led_7 (z_invV1 (md_X5_noAsking _) cv_X5_431 rfl dX5_led_8 rfl (by decide) (Rm.ofB rfl) (M_noAskingF hR h1 (z_iconst (v := 1) dX5_led_11 (by decide) (z_invV2 (md_X5_throwsIf _) cv_X5_321 rfl dX5_led_12 rfl (by decide) (Rm.ofB rfl) (M_thrF (z_if_eq 20 dX5_led_15 (by decide) (fun _ => z_iload2 dX5_led_20 (z_tabIn 107 dX5_led_21 (by decide) (by decide) rfl (by decide) (z_aload0 dX5_led_107 (z_getP (v := some (104, 0)) fl_X5_112 dX5_led_108 rfl rfl (hM 53 rfl) (z_iload1 dX5_led_111 (z_ialdv dX5_led_112 rfl ⟨ei, i120, Nat.le_of_ble_eq_true rfl⟩ (hR.col 12 _ (by decide)) (z_ireturn dX5_led_113 rfl (by decide) (by decide) ?_))))))) (fun c => absurd (rfl) c))))))))))))
        exact h'
      | 2, _ =>
        refine z_aload0 dX5_led_0 (z_iconst (v := 0) dX5_led_1 (by decide) (z_putI fl_X5_178 dX5_led_2 rfl rfl ⟨rfl, rfl⟩ (z_aload0 dX5_led_5 (z_aload0 dX5_led_6 (z_iload1 dX5_led_7 (z_invV1 (md_X5_noAsking _) cv_X5_431 rfl dX5_led_8 rfl (by decide) (Rm.ofB rfl) (M_noAskingF hR h1 (z_iconst (v := 1) dX5_led_11 (by decide) (z_invV2 (md_X5_throwsIf _) cv_X5_321 rfl dX5_led_12 rfl (by decide) (Rm.ofB rfl) (M_thrF (z_if_eq 20 dX5_led_15 (by decide) (fun _ => z_iload2 dX5_led_20 (z_tabIn 114 dX5_led_21 (by decide) (by decide) rfl (by decide) (z_aload0 dX5_led_114 (z_getP (v := some (105, 0)) fl_X5_115 dX5_led_115 rfl rfl (hM 54 rfl) (z_iload1 dX5_led_118 (z_ialdv dX5_led_119 rfl ⟨ei, i120, Nat.le_of_ble_eq_true rfl⟩ (hR.col 13 _ (by decide)) (z_ireturn dX5_led_120 rfl (by decide) (by decide) ?_))))))) (fun c => absurd (rfl) c))))))))))))
        exact h'
      | 3, _ =>
        refine z_aload0 dX5_led_0 (z_iconst (v := 0) dX5_led_1 (by decide) (z_putI fl_X5_178 dX5_led_2 rfl rfl ⟨rfl, rfl⟩ (z_aload0 dX5_led_5 (z_aload0 dX5_led_6 (z_iload1 dX5_led_7 (z_invV1 (md_X5_noAsking _) cv_X5_431 rfl dX5_led_8 rfl (by decide) (Rm.ofB rfl) (M_noAskingF hR h1 (z_iconst (v := 1) dX5_led_11 (by decide) (z_invV2 (md_X5_throwsIf _) cv_X5_321 rfl dX5_led_12 rfl (by decide) (Rm.ofB rfl) (M_thrF (z_if_eq 20 dX5_led_15 (by decide) (fun _ => z_iload2 dX5_led_20 (z_tabIn 121 dX5_led_21 (by decide) (by decide) rfl (by decide) (z_aload0 dX5_led_121 (z_getP (v := some (106, 0)) fl_X5_118 dX5_led_122 rfl rfl (hM 55 rfl) (z_iload1 dX5_led_125 (z_ialdv dX5_led_126 rfl ⟨ei, i120, Nat.le_of_ble_eq_true rfl⟩ (hR.col 14 _ (by decide)) (z_ireturn dX5_led_127 rfl (by decide) (by decide) ?_))))))) (fun c => absurd (rfl) c))))))))))))
        exact h'
      | 4, _ =>
        refine z_aload0 dX5_led_0 (z_iconst (v := 0) dX5_led_1 (by decide) (z_putI fl_X5_178 dX5_led_2 rfl rfl ⟨rfl, rfl⟩ (z_aload0 dX5_led_5 (z_aload0 dX5_led_6 (z_iload1 dX5_led_7 (z_invV1 (md_X5_noAsking _) cv_X5_431 rfl dX5_led_8 rfl (by decide) (Rm.ofB rfl) (M_noAskingF hR h1 (z_iconst (v := 1) dX5_led_11 (by decide) (z_invV2 (md_X5_throwsIf _) cv_X5_321 rfl dX5_led_12 rfl (by decide) (Rm.ofB rfl) (M_thrF (z_if_eq 20 dX5_led_15 (by decide) (fun _ => z_iload2 dX5_led_20 (z_tabIn 128 dX5_led_21 (by decide) (by decide) rfl (by decide) (z_aload0 dX5_led_128 (z_getP (v := some (107, 0)) fl_X5_121 dX5_led_129 rfl rfl (hM 56 rfl) (z_iload1 dX5_led_132 (z_ialdv dX5_led_133 rfl ⟨ei, i120, Nat.le_of_ble_eq_true rfl⟩ (hR.col 15 _ (by decide)) (z_ireturn dX5_led_134 rfl (by decide) (by decide) ?_))))))) (fun c => absurd (rfl) c))))))))))))
        exact h'
      | 5, _ =>
        refine z_aload0 dX5_led_0 (z_iconst (v := 0) dX5_led_1 (by decide) (z_putI fl_X5_178 dX5_led_2 rfl rfl ⟨rfl, rfl⟩ (z_aload0 dX5_led_5 (z_aload0 dX5_led_6 (z_iload1 dX5_led_7 (z_invV1 (md_X5_noAsking _) cv_X5_431 rfl dX5_led_8 rfl (by decide) (Rm.ofB rfl) (M_noAskingF hR h1 (z_iconst (v := 1) dX5_led_11 (by decide) (z_invV2 (md_X5_throwsIf _) cv_X5_321 rfl dX5_led_12 rfl (by decide) (Rm.ofB rfl) (M_thrF (z_if_eq 20 dX5_led_15 (by decide) (fun _ => z_iload2 dX5_led_20 (z_tabIn 135 dX5_led_21 (by decide) (by decide) rfl (by decide) (z_aload0 dX5_led_135 (z_getP (v := some (108, 0)) fl_X5_124 dX5_led_136 rfl rfl (hM 57 rfl) (z_iload1 dX5_led_139 (z_ialdv dX5_led_140 rfl ⟨ei, i120, Nat.le_of_ble_eq_true rfl⟩ (hR.col 23 _ (by decide)) (z_ireturn dX5_led_141 rfl (by decide) (by decide) ?_))))))) (fun c => absurd (rfl) c))))))))))))
        exact h'
      | 6, _ =>
        refine z_aload0 dX5_led_0 (z_iconst (v := 0) dX5_led_1 (by decide) (z_putI fl_X5_178 dX5_led_2 rfl rfl ⟨rfl, rfl⟩ (z_aload0 dX5_led_5 (z_aload0 dX5_led_6 (z_iload1 dX5_led_7 (z_invV1 (md_X5_noAsking _) cv_X5_431 rfl dX5_led_8 rfl (by decide) (Rm.ofB rfl) (M_noAskingF hR h1 (z_iconst (v := 1) dX5_led_11 (by decide) (z_invV2 (md_X5_throwsIf _) cv_X5_321 rfl dX5_led_12 rfl (by decide) (Rm.ofB rfl) (M_thrF (z_if_eq 20 dX5_led_15 (by decide) (fun _ => z_iload2 dX5_led_20 (z_tabIn 142 dX5_led_21 (by decide) (by decide) rfl (by decide) (z_aload0 dX5_led_142 (z_iload1 dX5_led_143 (z_invV1 (md_X5_lacksOf _) cv_X5_437 rfl dX5_led_144 rfl (by decide) (Rm.ofB rfl) (M_lacksOf hM hR ei i120 (z_ireturn dX5_led_147 rfl (by decide) (by decide) ?_))))))) (fun c => absurd (rfl) c))))))))))))
        exact h'
      | 7, _ =>
        refine z_aload0 dX5_led_0 (z_iconst (v := 0) dX5_led_1 (by decide) (z_putI fl_X5_178 dX5_led_2 rfl rfl ⟨rfl, rfl⟩ (z_aload0 dX5_led_5 (z_aload0 dX5_led_6 (z_iload1 dX5_led_7 (z_invV1 (md_X5_noAsking _) cv_X5_431 rfl dX5_led_8 rfl (by decide) (Rm.ofB rfl) (M_noAskingF hR h1 (z_iconst (v := 1) dX5_led_11 (by decide) (z_invV2 (md_X5_throwsIf _) cv_X5_321 rfl dX5_led_12 rfl (by decide) (Rm.ofB rfl) (M_thrF (z_if_eq 20 dX5_led_15 (by decide) (fun _ => z_iload2 dX5_led_20 (z_tabIn 148 dX5_led_21 (by decide) (by decide) rfl (by decide) (z_aload0 dX5_led_148 (z_getP (v := some (111, 0)) fl_X5_133 dX5_led_149 rfl rfl (hM 60 rfl) (z_iload1 dX5_led_152 (z_ialdv dX5_led_153 rfl ⟨ei, i120, Nat.le_of_ble_eq_true rfl⟩ (hR.col 18 _ (by decide)) (z_ireturn dX5_led_154 rfl (by decide) (by decide) ?_))))))) (fun c => absurd (rfl) c))))))))))))
        exact h'
      | 8, _ =>
        refine z_aload0 dX5_led_0 (z_iconst (v := 0) dX5_led_1 (by decide) (z_putI fl_X5_178 dX5_led_2 rfl rfl ⟨rfl, rfl⟩ (z_aload0 dX5_led_5 (z_aload0 dX5_led_6 (z_iload1 dX5_led_7 (z_invV1 (md_X5_noAsking _) cv_X5_431 rfl dX5_led_8 rfl (by decide) (Rm.ofB rfl) (M_noAskingF hR h1 (z_iconst (v := 1) dX5_led_11 (by decide) (z_invV2 (md_X5_throwsIf _) cv_X5_321 rfl dX5_led_12 rfl (by decide) (Rm.ofB rfl) (M_thrF (z_if_eq 20 dX5_led_15 (by decide) (fun _ => z_iload2 dX5_led_20 (z_tabIn 155 dX5_led_21 (by decide) (by decide) rfl (by decide) (z_aload0 dX5_led_155 (z_iload1 dX5_led_156 (z_bipush (v := 6) dX5_led_157 (by decide) (z_invV2 (md_X5_now _) cv_X5_434 rfl dX5_led_159 rfl (by decide) (Rm.ofB rfl) (M_nowv (w := 6) hM ei rfl (by omega) (hR.col 6 i (by decide)) (z_ireturn dX5_led_162 rfl (by decide) (by decide) ?_)))))))) (fun c => absurd (rfl) c))))))))))))
        exact h'
      | 9, _ =>
        refine z_aload0 dX5_led_0 (z_iconst (v := 0) dX5_led_1 (by decide) (z_putI fl_X5_178 dX5_led_2 rfl rfl ⟨rfl, rfl⟩ (z_aload0 dX5_led_5 (z_aload0 dX5_led_6 (z_iload1 dX5_led_7 (z_invV1 (md_X5_noAsking _) cv_X5_431 rfl dX5_led_8 rfl (by decide) (Rm.ofB rfl) (M_noAskingF hR h1 (z_iconst (v := 1) dX5_led_11 (by decide) (z_invV2 (md_X5_throwsIf _) cv_X5_321 rfl dX5_led_12 rfl (by decide) (Rm.ofB rfl) (M_thrF (z_if_eq 20 dX5_led_15 (by decide) (fun _ => z_iload2 dX5_led_20 (z_tabIn 163 dX5_led_21 (by decide) (by decide) rfl (by decide) (z_aload0 dX5_led_163 (z_getP (v := some (113, 0)) fl_X5_139 dX5_led_164 rfl rfl (hM 62 rfl) (z_iload1 dX5_led_167 (z_ialdv dX5_led_168 rfl ⟨ei, i120, Nat.le_of_ble_eq_true rfl⟩ (hR.col 20 _ (by decide)) (z_ireturn dX5_led_169 rfl (by decide) (by decide) ?_))))))) (fun c => absurd (rfl) c))))))))))))
        exact h'
      | 10, _ =>
        refine z_aload0 dX5_led_0 (z_iconst (v := 0) dX5_led_1 (by decide) (z_putI fl_X5_178 dX5_led_2 rfl rfl ⟨rfl, rfl⟩ (z_aload0 dX5_led_5 (z_aload0 dX5_led_6 (z_iload1 dX5_led_7 (z_invV1 (md_X5_noAsking _) cv_X5_431 rfl dX5_led_8 rfl (by decide) (Rm.ofB rfl) (M_noAskingF hR h1 (z_iconst (v := 1) dX5_led_11 (by decide) (z_invV2 (md_X5_throwsIf _) cv_X5_321 rfl dX5_led_12 rfl (by decide) (Rm.ofB rfl) (M_thrF (z_if_eq 20 dX5_led_15 (by decide) (fun _ => z_iload2 dX5_led_20 (z_tabIn 170 dX5_led_21 (by decide) (by decide) rfl (by decide) (z_aload0 dX5_led_170 (z_getP (v := some (112, 0)) fl_X5_136 dX5_led_171 rfl rfl (hM 61 rfl) (z_iload1 dX5_led_174 (z_ialdv dX5_led_175 rfl ⟨ei, i120, Nat.le_of_ble_eq_true rfl⟩ (hR.col 19 _ (by decide)) (z_ireturn dX5_led_176 rfl (by decide) (by decide) ?_))))))) (fun c => absurd (rfl) c))))))))))))
        exact h'
      | 11, _ =>
        refine z_aload0 dX5_led_0 (z_iconst (v := 0) dX5_led_1 (by decide) (z_putI fl_X5_178 dX5_led_2 rfl rfl ⟨rfl, rfl⟩ (z_aload0 dX5_led_5 (z_aload0 dX5_led_6 (z_iload1 dX5_led_7 (z_invV1 (md_X5_noAsking _) cv_X5_431 rfl dX5_led_8 rfl (by decide) (Rm.ofB rfl) (M_noAskingF hR h1 (z_iconst (v := 1) dX5_led_11 (by decide) (z_invV2 (md_X5_throwsIf _) cv_X5_321 rfl dX5_led_12 rfl (by decide) (Rm.ofB rfl) (M_thrF (z_if_eq 20 dX5_led_15 (by decide) (fun _ => z_iload2 dX5_led_20 (z_tabIn 177 dX5_led_21 (by decide) (by decide) rfl (by decide) (z_aload0 dX5_led_177 (z_iload1 dX5_led_178 (z_iconst (v := 1) dX5_led_179 (by decide) (z_invV2 (md_X5_now _) cv_X5_434 rfl dX5_led_180 rfl (by decide) (Rm.ofB rfl) (M_nowv (w := 1) hM ei rfl (by omega) (hR.col 1 i (by decide)) (z_ireturn dX5_led_183 rfl (by decide) (by decide) ?_)))))))) (fun c => absurd (rfl) c))))))))))))
        exact h'
      | 12, _ =>
        refine z_aload0 dX5_led_0 (z_iconst (v := 0) dX5_led_1 (by decide) (z_putI fl_X5_178 dX5_led_2 rfl rfl ⟨rfl, rfl⟩ (z_aload0 dX5_led_5 (z_aload0 dX5_led_6 (z_iload1 dX5_led_7 (z_invV1 (md_X5_noAsking _) cv_X5_431 rfl dX5_led_8 rfl (by decide) (Rm.ofB rfl) (M_noAskingF hR h1 (z_iconst (v := 1) dX5_led_11 (by decide) (z_invV2 (md_X5_throwsIf _) cv_X5_321 rfl dX5_led_12 rfl (by decide) (Rm.ofB rfl) (M_thrF (z_if_eq 20 dX5_led_15 (by decide) (fun _ => z_iload2 dX5_led_20 (z_tabIn 184 dX5_led_21 (by decide) (by decide) rfl (by decide) (z_aload0 dX5_led_184 (z_iload1 dX5_led_185 (z_iconst (v := 2) dX5_led_186 (by decide) (z_invV2 (md_X5_now _) cv_X5_434 rfl dX5_led_187 rfl (by decide) (Rm.ofB rfl) (M_nowv (w := 2) hM ei rfl (by omega) (hR.col 2 i (by decide)) (z_ireturn dX5_led_190 rfl (by decide) (by decide) ?_)))))))) (fun c => absurd (rfl) c))))))))))))
        exact h'
      | 13, _ =>
        refine z_aload0 dX5_led_0 (z_iconst (v := 0) dX5_led_1 (by decide) (z_putI fl_X5_178 dX5_led_2 rfl rfl ⟨rfl, rfl⟩ (z_aload0 dX5_led_5 (z_aload0 dX5_led_6 (z_iload1 dX5_led_7 (z_invV1 (md_X5_noAsking _) cv_X5_431 rfl dX5_led_8 rfl (by decide) (Rm.ofB rfl) (M_noAskingF hR h1 (z_iconst (v := 1) dX5_led_11 (by decide) (z_invV2 (md_X5_throwsIf _) cv_X5_321 rfl dX5_led_12 rfl (by decide) (Rm.ofB rfl) (M_thrF (z_if_eq 20 dX5_led_15 (by decide) (fun _ => z_iload2 dX5_led_20 (z_tabIn 191 dX5_led_21 (by decide) (by decide) rfl (by decide) (z_aload0 dX5_led_191 (z_iload1 dX5_led_192 (z_iconst (v := 3) dX5_led_193 (by decide) (z_invV2 (md_X5_now _) cv_X5_434 rfl dX5_led_194 rfl (by decide) (Rm.ofB rfl) (M_nowv (w := 3) hM ei rfl (by omega) (hR.col 3 i (by decide)) (z_ireturn dX5_led_197 rfl (by decide) (by decide) ?_)))))))) (fun c => absurd (rfl) c))))))))))))
        exact h'
      | 14, _ =>
        refine z_aload0 dX5_led_0 (z_iconst (v := 0) dX5_led_1 (by decide) (z_putI fl_X5_178 dX5_led_2 rfl rfl ⟨rfl, rfl⟩ (z_aload0 dX5_led_5 (z_aload0 dX5_led_6 (z_iload1 dX5_led_7 (z_invV1 (md_X5_noAsking _) cv_X5_431 rfl dX5_led_8 rfl (by decide) (Rm.ofB rfl) (M_noAskingF hR h1 (z_iconst (v := 1) dX5_led_11 (by decide) (z_invV2 (md_X5_throwsIf _) cv_X5_321 rfl dX5_led_12 rfl (by decide) (Rm.ofB rfl) (M_thrF (z_if_eq 20 dX5_led_15 (by decide) (fun _ => z_iload2 dX5_led_20 (z_tabIn 198 dX5_led_21 (by decide) (by decide) rfl (by decide) (z_aload0 dX5_led_198 (z_iload1 dX5_led_199 (z_iconst (v := 4) dX5_led_200 (by decide) (z_invV2 (md_X5_now _) cv_X5_434 rfl dX5_led_201 rfl (by decide) (Rm.ofB rfl) (M_nowv (w := 4) hM ei rfl (by omega) (hR.col 4 i (by decide)) (z_ireturn dX5_led_204 rfl (by decide) (by decide) ?_)))))))) (fun c => absurd (rfl) c))))))))))))
        exact h'
      | 15, _ =>
        refine z_aload0 dX5_led_0 (z_iconst (v := 0) dX5_led_1 (by decide) (z_putI fl_X5_178 dX5_led_2 rfl rfl ⟨rfl, rfl⟩ (z_aload0 dX5_led_5 (z_aload0 dX5_led_6 (z_iload1 dX5_led_7 (z_invV1 (md_X5_noAsking _) cv_X5_431 rfl dX5_led_8 rfl (by decide) (Rm.ofB rfl) (M_noAskingF hR h1 (z_iconst (v := 1) dX5_led_11 (by decide) (z_invV2 (md_X5_throwsIf _) cv_X5_321 rfl dX5_led_12 rfl (by decide) (Rm.ofB rfl) (M_thrF (z_if_eq 20 dX5_led_15 (by decide) (fun _ => z_iload2 dX5_led_20 (z_tabIn 205 dX5_led_21 (by decide) (by decide) rfl (by decide) (z_aload0 dX5_led_205 (z_iload1 dX5_led_206 (z_iconst (v := 5) dX5_led_207 (by decide) (z_invV2 (md_X5_now _) cv_X5_434 rfl dX5_led_208 rfl (by decide) (Rm.ofB rfl) (M_nowv (w := 5) hM ei rfl (by omega) (hR.col 5 i (by decide)) (z_ireturn dX5_led_211 rfl (by decide) (by decide) ?_)))))))) (fun c => absurd (rfl) c))))))))))))
        exact h'
      | j + 16, hj => omega
    · rw [if_pos h2] at h
      refine z_aload0 dX5_led_0 (z_iconst (v := 0) dX5_led_1 (by decide) (z_putI fl_X5_178 dX5_led_2 rfl rfl ⟨rfl, rfl⟩ (z_aload0 dX5_led_5 (z_aload0 dX5_led_6 (z_iload1 dX5_led_7 (z_invV1 (md_X5_noAsking _) cv_X5_431 rfl dX5_led_8 rfl (by decide) (Rm.ofB rfl) (M_noAskingF hR h1 (z_iconst (v := 1) dX5_led_11 (by decide) (z_invV2 (md_X5_throwsIf _) cv_X5_321 rfl dX5_led_12 rfl (by decide) (Rm.ofB rfl) (M_thrF (z_if_eq 20 dX5_led_15 (by decide) (fun _ => z_iload2 dX5_led_20 (z_tabOut 212 dX5_led_21 (out_nI h2 (by decide) (by decide)) (by decide) ?_)) (fun c => absurd (rfl) c))))))))))))
      refine z_aload0 dX5_led_212 (z_iconst (v := 2) dX5_led_213 (by decide) (z_putI fl_X5_178 dX5_led_214 rfl rfl ⟨rfl, rfl⟩ (z_iconst (v := 0) dX5_led_217 (by decide) (z_ireturn dX5_led_218 rfl (by decide) (by decide) ?_))))
      exact h _ hT.th (Fm.rf.sI.sI) (by simp [gI_sI])
  · rw [if_pos h1] at h
    refine z_aload0 dX5_led_0 (z_iconst (v := 0) dX5_led_1 (by decide) (z_putI fl_X5_178 dX5_led_2 rfl rfl ⟨rfl, rfl⟩ (z_aload0 dX5_led_5 (z_aload0 dX5_led_6 (z_iload1 dX5_led_7 (z_invV1 (md_X5_noAsking _) cv_X5_431 rfl dX5_led_8 rfl (by decide) (Rm.ofB rfl) (M_noAskingT hR h1 (z_iconst (v := 1) dX5_led_11 (by decide) (z_invV2 (md_X5_throwsIf _) cv_X5_321 rfl dX5_led_12 rfl (by decide) (Rm.ofB rfl) (M_thrT (z_if_eq 20 dX5_led_15 (by decide) (fun c => absurd c (n10)) (fun _ => z_iconst (v := 0) dX5_led_18 (by decide) (z_ireturn dX5_led_19 rfl (by decide) (by decide) ?_)))))))))))))
    exact h _ hT.th (Fm.rf.sI.sI) (by simp [gI_sI])
theorem P_booklet {b w : Int32} (hI : TM σ Λ μ) {n : Nat} (hn : σ 7 4 = nI n) (hn2 : n ≤ 150) (h : ∀ μ', TM (pBooklet σ b w).1 Λ μ' → Fm μ μ' → gI μ' 50 0 0 = (pBooklet σ b w).2.1 → Q (rI (pBooklet σ b w).2.2) μ') : Ct RX5 cX5_booklet (3, some .int, [], false, rmm 3 0 0) [vr 50 0, vi b, vi w] μ Q := by
  refine Ct.of (ls := [some (vr 50 0), some (vi b), some (vi w)]) rfl fun Γ C ad => ?_
  have hT := hI.th (v := 0)
  have hR := hT.2.1
  have hM := hT.1
  unfold pBooklet at h
  by_cases h1 : 0 ≤ b ∧ b ≤ σ 7 4 - 1
  · rw [if_neg (nn h1)] at h
    obtain ⟨i, hi, ei⟩ := lt_nI hn (by omega) h1
    rw [ei, tn_nI (by omega)] at h
    have i150 : i < 150 := by omega
    have hb : i < tn (σ 7 4) := by rw [hn, tn_nI (by omega)]; exact hi
    by_cases h2 : 0 ≤ w ∧ w ≤ 3
    · rw [if_neg (nn h2)] at h
      have h' := h _ hT (Fm.rf.sI) (by simp [gI_sI])
      obtain ⟨j, hj, ej⟩ := in_nI (n := 3) h2 rfl
      subst ej
      match j, hj with
      | 0, _ =>
        refine z_aload0 dX5_booklet_0 (z_iconst (v := 0) dX5_booklet_1 (by decide) (z_putI fl_X5_178 dX5_booklet_2 rfl rfl ⟨rfl, rfl⟩ (z_aload0 dX5_booklet_5 (z_iload1 dX5_booklet_6 (z_iconst (v := 0) dX5_booklet_7 (by decide) (z_aload0 dX5_booklet_8 (z_getIv fl_X5_415 dX5_booklet_9 rfl rfl (hR.s7 4 (by decide)) (z_iconst (v := 1) dX5_booklet_12 (by decide) (z_isub dX5_booklet_13 (z_invS3 (md_X5_in _) cs_X5_317 dX5_booklet_14 rfl (by decide) (Rm.ofB rfl) (M_inT h1 (z_if_ne 24 dX5_booklet_17 (by decide) (fun _ => z_iconst (v := 0) dX5_booklet_24 (by decide) (z_iconst (v := 1) dX5_booklet_25 (by decide) (z_invV2 (md_X5_throwsIf _) cv_X5_321 rfl dX5_booklet_26 rfl (by decide) (Rm.ofB rfl) (M_thrF (z_if_eq 34 dX5_booklet_29 (by decide) (fun _ => z_iload2 dX5_booklet_34 (z_tabIn 64 dX5_booklet_35 (by decide) (by decide) rfl (by decide) (z_aload0 dX5_booklet_64 (z_getP (v := some (118, 0)) fl_X5_151 dX5_booklet_65 rfl rfl (hM 67 rfl) (z_iload1 dX5_booklet_68 (z_ialdv dX5_booklet_69 rfl ⟨ei, i150, Nat.le_of_ble_eq_true rfl⟩ (hR.bk 8 _ (by decide) hb) (z_ireturn dX5_booklet_70 rfl (by decide) (by decide) ?_))))))) (fun c => absurd (rfl) c)))))) (fun c => absurd c (n10))))))))))))))
        exact h'
      | 1, _ =>
        refine z_aload0 dX5_booklet_0 (z_iconst (v := 0) dX5_booklet_1 (by decide) (z_putI fl_X5_178 dX5_booklet_2 rfl rfl ⟨rfl, rfl⟩ (z_aload0 dX5_booklet_5 (z_iload1 dX5_booklet_6 (z_iconst (v := 0) dX5_booklet_7 (by decide) (z_aload0 dX5_booklet_8 (z_getIv fl_X5_415 dX5_booklet_9 rfl rfl (hR.s7 4 (by decide)) (z_iconst (v := 1) dX5_booklet_12 (by decide) (z_isub dX5_booklet_13 (z_invS3 (md_X5_in _) cs_X5_317 dX5_booklet_14 rfl (by decide) (Rm.ofB rfl) (M_inT h1 (z_if_ne 24 dX5_booklet_17 (by decide) (fun _ => z_iconst (v := 0) dX5_booklet_24 (by decide) (z_iconst (v := 1) dX5_booklet_25 (by decide) (z_invV2 (md_X5_throwsIf _) cv_X5_321 rfl dX5_booklet_26 rfl (by decide) (Rm.ofB rfl) (M_thrF (z_if_eq 34 dX5_booklet_29 (by decide) (fun _ => z_iload2 dX5_booklet_34 (z_tabIn 71 dX5_booklet_35 (by decide) (by decide) rfl (by decide) (z_aload0 dX5_booklet_71 (z_getP (v := some (119, 0)) fl_X5_154 dX5_booklet_72 rfl rfl (hM 68 rfl) (z_iload1 dX5_booklet_75 (z_ialdv dX5_booklet_76 rfl ⟨ei, i150, Nat.le_of_ble_eq_true rfl⟩ (hR.bk 9 _ (by decide) hb) (z_ireturn dX5_booklet_77 rfl (by decide) (by decide) ?_))))))) (fun c => absurd (rfl) c)))))) (fun c => absurd c (n10))))))))))))))
        exact h'
      | 2, _ =>
        refine z_aload0 dX5_booklet_0 (z_iconst (v := 0) dX5_booklet_1 (by decide) (z_putI fl_X5_178 dX5_booklet_2 rfl rfl ⟨rfl, rfl⟩ (z_aload0 dX5_booklet_5 (z_iload1 dX5_booklet_6 (z_iconst (v := 0) dX5_booklet_7 (by decide) (z_aload0 dX5_booklet_8 (z_getIv fl_X5_415 dX5_booklet_9 rfl rfl (hR.s7 4 (by decide)) (z_iconst (v := 1) dX5_booklet_12 (by decide) (z_isub dX5_booklet_13 (z_invS3 (md_X5_in _) cs_X5_317 dX5_booklet_14 rfl (by decide) (Rm.ofB rfl) (M_inT h1 (z_if_ne 24 dX5_booklet_17 (by decide) (fun _ => z_iconst (v := 0) dX5_booklet_24 (by decide) (z_iconst (v := 1) dX5_booklet_25 (by decide) (z_invV2 (md_X5_throwsIf _) cv_X5_321 rfl dX5_booklet_26 rfl (by decide) (Rm.ofB rfl) (M_thrF (z_if_eq 34 dX5_booklet_29 (by decide) (fun _ => z_iload2 dX5_booklet_34 (z_tabIn 78 dX5_booklet_35 (by decide) (by decide) rfl (by decide) (z_aload0 dX5_booklet_78 (z_getP (v := some (120, 0)) fl_X5_157 dX5_booklet_79 rfl rfl (hM 69 rfl) (z_iload1 dX5_booklet_82 (z_ialdv dX5_booklet_83 rfl ⟨ei, i150, Nat.le_of_ble_eq_true rfl⟩ (hR.bk 10 _ (by decide) hb) (z_ireturn dX5_booklet_84 rfl (by decide) (by decide) ?_))))))) (fun c => absurd (rfl) c)))))) (fun c => absurd c (n10))))))))))))))
        exact h'
      | 3, _ =>
        refine z_aload0 dX5_booklet_0 (z_iconst (v := 0) dX5_booklet_1 (by decide) (z_putI fl_X5_178 dX5_booklet_2 rfl rfl ⟨rfl, rfl⟩ (z_aload0 dX5_booklet_5 (z_iload1 dX5_booklet_6 (z_iconst (v := 0) dX5_booklet_7 (by decide) (z_aload0 dX5_booklet_8 (z_getIv fl_X5_415 dX5_booklet_9 rfl rfl (hR.s7 4 (by decide)) (z_iconst (v := 1) dX5_booklet_12 (by decide) (z_isub dX5_booklet_13 (z_invS3 (md_X5_in _) cs_X5_317 dX5_booklet_14 rfl (by decide) (Rm.ofB rfl) (M_inT h1 (z_if_ne 24 dX5_booklet_17 (by decide) (fun _ => z_iconst (v := 0) dX5_booklet_24 (by decide) (z_iconst (v := 1) dX5_booklet_25 (by decide) (z_invV2 (md_X5_throwsIf _) cv_X5_321 rfl dX5_booklet_26 rfl (by decide) (Rm.ofB rfl) (M_thrF (z_if_eq 34 dX5_booklet_29 (by decide) (fun _ => z_iload2 dX5_booklet_34 (z_tabIn 85 dX5_booklet_35 (by decide) (by decide) rfl (by decide) (z_aload0 dX5_booklet_85 (z_getP (v := some (121, 0)) fl_X5_160 dX5_booklet_86 rfl rfl (hM 70 rfl) (z_iload1 dX5_booklet_89 (z_ialdv dX5_booklet_90 rfl ⟨ei, i150, Nat.le_of_ble_eq_true rfl⟩ (hR.bk 11 _ (by decide) hb) (z_ireturn dX5_booklet_91 rfl (by decide) (by decide) ?_))))))) (fun c => absurd (rfl) c)))))) (fun c => absurd c (n10))))))))))))))
        exact h'
      | j + 4, hj => omega
    · rw [if_pos h2] at h
      refine z_aload0 dX5_booklet_0 (z_iconst (v := 0) dX5_booklet_1 (by decide) (z_putI fl_X5_178 dX5_booklet_2 rfl rfl ⟨rfl, rfl⟩ (z_aload0 dX5_booklet_5 (z_iload1 dX5_booklet_6 (z_iconst (v := 0) dX5_booklet_7 (by decide) (z_aload0 dX5_booklet_8 (z_getIv fl_X5_415 dX5_booklet_9 rfl rfl (hR.s7 4 (by decide)) (z_iconst (v := 1) dX5_booklet_12 (by decide) (z_isub dX5_booklet_13 (z_invS3 (md_X5_in _) cs_X5_317 dX5_booklet_14 rfl (by decide) (Rm.ofB rfl) (M_inT h1 (z_if_ne 24 dX5_booklet_17 (by decide) (fun _ => z_iconst (v := 0) dX5_booklet_24 (by decide) (z_iconst (v := 1) dX5_booklet_25 (by decide) (z_invV2 (md_X5_throwsIf _) cv_X5_321 rfl dX5_booklet_26 rfl (by decide) (Rm.ofB rfl) (M_thrF (z_if_eq 34 dX5_booklet_29 (by decide) (fun _ => z_iload2 dX5_booklet_34 (z_tabOut 92 dX5_booklet_35 (out_nI h2 (by decide) (by decide)) (by decide) ?_)) (fun c => absurd (rfl) c)))))) (fun c => absurd c (n10))))))))))))))
      refine z_aload0 dX5_booklet_92 (z_iconst (v := 2) dX5_booklet_93 (by decide) (z_putI fl_X5_178 dX5_booklet_94 rfl rfl ⟨rfl, rfl⟩ (z_iconst (v := 0) dX5_booklet_97 (by decide) (z_ireturn dX5_booklet_98 rfl (by decide) (by decide) ?_))))
      exact h _ hT.th (Fm.rf.sI.sI) (by simp [gI_sI])
  · rw [if_pos h1] at h
    refine z_aload0 dX5_booklet_0 (z_iconst (v := 0) dX5_booklet_1 (by decide) (z_putI fl_X5_178 dX5_booklet_2 rfl rfl ⟨rfl, rfl⟩ (z_aload0 dX5_booklet_5 (z_iload1 dX5_booklet_6 (z_iconst (v := 0) dX5_booklet_7 (by decide) (z_aload0 dX5_booklet_8 (z_getIv fl_X5_415 dX5_booklet_9 rfl rfl (hR.s7 4 (by decide)) (z_iconst (v := 1) dX5_booklet_12 (by decide) (z_isub dX5_booklet_13 (z_invS3 (md_X5_in _) cs_X5_317 dX5_booklet_14 rfl (by decide) (Rm.ofB rfl) (M_inF h1 (z_if_ne 24 dX5_booklet_17 (by decide) (fun c => absurd (rfl) c) (fun _ => z_iconst (v := 1) dX5_booklet_20 (by decide) (z_goto 25 dX5_booklet_21 (by decide) (z_iconst (v := 1) dX5_booklet_25 (by decide) (z_invV2 (md_X5_throwsIf _) cv_X5_321 rfl dX5_booklet_26 rfl (by decide) (Rm.ofB rfl) (M_thrT (z_if_eq 34 dX5_booklet_29 (by decide) (fun c => absurd c (n10)) (fun _ => z_iconst (v := 0) dX5_booklet_32 (by decide) (z_ireturn dX5_booklet_33 rfl (by decide) (by decide) ?_))))))))))))))))))))
    exact h _ hT.th (Fm.rf.sI.sI) (by simp [gI_sI])
theorem P_count {w : Int32} (hI : TM σ Λ μ) {n nl : Nat} (hn : σ 34 2 = nI n) (hn2 : n ≤ 120) (hl : σ 34 0 = nI nl) (hl2 : nl ≤ 12) (h : ∀ μ', TM (pCount σ w).1 Λ μ' → Fm μ μ' → gI μ' 50 0 0 = (pCount σ w).2.1 → Q (rI (pCount σ w).2.2) μ') : Ct RX5 cX5_count (2, some .int, [], false, rmm 3 0 0) [vr 50 0, vi w] μ Q := by
  refine Ct.of (ls := [some (vr 50 0), some (vi w)]) rfl fun Γ C ad => ?_
  have hT := hI.th (v := 0)
  have hR := hT.2.1
  have hM := hT.1
  have h' := h _ hT (Fm.rf.sI) (by rw [gI_sI, if_pos ⟨rfl, rfl, rfl⟩]; rfl)
  by_cases h2 : 0 ≤ w ∧ w ≤ 17
  · obtain ⟨j, hj, ej⟩ := in_nI (n := 17) h2 rfl
    subst ej
    match j, hj with
    | 0, _ =>
      refine z_aload0 dX5_count_0 (z_iconst (v := 0) dX5_count_1 (by decide) (z_putI fl_X5_178 dX5_count_2 rfl rfl ⟨rfl, rfl⟩ (z_iload1 dX5_count_5 (z_tabIn 92 dX5_count_6 (by decide) (by decide) rfl (by decide) (z_aload0 dX5_count_92 (z_getIv fl_X5_314 dX5_count_93 rfl rfl (hR.s7 0 (by decide)) (z_ireturn dX5_count_96 rfl (by decide) (by decide) ?_)))))))
      exact h'
    | 1, _ =>
      refine z_aload0 dX5_count_0 (z_iconst (v := 0) dX5_count_1 (by decide) (z_putI fl_X5_178 dX5_count_2 rfl rfl ⟨rfl, rfl⟩ (z_iload1 dX5_count_5 (z_tabIn 97 dX5_count_6 (by decide) (by decide) rfl (by decide) (z_aload0 dX5_count_97 (z_getIv fl_X5_372 dX5_count_98 rfl rfl (hR.s34 1 (by decide)) (z_ireturn dX5_count_101 rfl (by decide) (by decide) ?_)))))))
      exact h'
    | 2, _ =>
      refine z_aload0 dX5_count_0 (z_iconst (v := 0) dX5_count_1 (by decide) (z_putI fl_X5_178 dX5_count_2 rfl rfl ⟨rfl, rfl⟩ (z_iload1 dX5_count_5 (z_tabIn 102 dX5_count_6 (by decide) (by decide) rfl (by decide) (z_aload0 dX5_count_102 (z_getIv fl_X5_328 dX5_count_103 rfl rfl (hR.s34 0 (by decide)) (z_ireturn dX5_count_106 rfl (by decide) (by decide) ?_)))))))
      exact h'
    | 3, _ =>
      refine z_aload0 dX5_count_0 (z_iconst (v := 0) dX5_count_1 (by decide) (z_putI fl_X5_178 dX5_count_2 rfl rfl ⟨rfl, rfl⟩ (z_iload1 dX5_count_5 (z_tabIn 107 dX5_count_6 (by decide) (by decide) rfl (by decide) (z_aload0 dX5_count_107 (z_getIv fl_X5_412 dX5_count_108 rfl rfl (hR.s34 2 (by decide)) (z_ireturn dX5_count_111 rfl (by decide) (by decide) ?_)))))))
      exact h'
    | 4, _ =>
      refine z_aload0 dX5_count_0 (z_iconst (v := 0) dX5_count_1 (by decide) (z_putI fl_X5_178 dX5_count_2 rfl rfl ⟨rfl, rfl⟩ (z_iload1 dX5_count_5 (z_tabIn 112 dX5_count_6 (by decide) (by decide) rfl (by decide) (z_aload0 dX5_count_112 (z_iconst (v := 0) dX5_count_113 (by decide) (z_iconst (v := 5) dX5_count_114 (by decide) (z_invV2 (md_X5_inState _) cv_X5_493 rfl dX5_count_115 rfl (by decide) (Rm.ofB rfl) (M_inState hM hR hn hn2 (z_ireturn dX5_count_118 rfl (by decide) (by decide) ?_))))))))))
      exact h'
    | 5, _ =>
      refine z_aload0 dX5_count_0 (z_iconst (v := 0) dX5_count_1 (by decide) (z_putI fl_X5_178 dX5_count_2 rfl rfl ⟨rfl, rfl⟩ (z_iload1 dX5_count_5 (z_tabIn 119 dX5_count_6 (by decide) (by decide) rfl (by decide) (z_aload0 dX5_count_119 (z_bipush (v := 7) dX5_count_120 (by decide) (z_bipush (v := 7) dX5_count_122 (by decide) (z_invV2 (md_X5_inState _) cv_X5_493 rfl dX5_count_124 rfl (by decide) (Rm.ofB rfl) (M_inState hM hR hn hn2 (z_ireturn dX5_count_127 rfl (by decide) (by decide) ?_))))))))))
      exact h'
    | 6, _ =>
      refine z_aload0 dX5_count_0 (z_iconst (v := 0) dX5_count_1 (by decide) (z_putI fl_X5_178 dX5_count_2 rfl rfl ⟨rfl, rfl⟩ (z_iload1 dX5_count_5 (z_tabIn 128 dX5_count_6 (by decide) (by decide) rfl (by decide) (z_aload0 dX5_count_128 (z_iconst (v := 3) dX5_count_129 (by decide) (z_iconst (v := 3) dX5_count_130 (by decide) (z_invV2 (md_X5_inState _) cv_X5_493 rfl dX5_count_131 rfl (by decide) (Rm.ofB rfl) (M_inState hM hR hn hn2 (z_ireturn dX5_count_134 rfl (by decide) (by decide) ?_))))))))))
      exact h'
    | 7, _ =>
      refine z_aload0 dX5_count_0 (z_iconst (v := 0) dX5_count_1 (by decide) (z_putI fl_X5_178 dX5_count_2 rfl rfl ⟨rfl, rfl⟩ (z_iload1 dX5_count_5 (z_tabIn 135 dX5_count_6 (by decide) (by decide) rfl (by decide) (z_aload0 dX5_count_135 (z_getIv fl_X5_415 dX5_count_136 rfl rfl (hR.s7 4 (by decide)) (z_ireturn dX5_count_139 rfl (by decide) (by decide) ?_)))))))
      exact h'
    | 8, _ =>
      refine z_aload0 dX5_count_0 (z_iconst (v := 0) dX5_count_1 (by decide) (z_putI fl_X5_178 dX5_count_2 rfl rfl ⟨rfl, rfl⟩ (z_iload1 dX5_count_5 (z_tabIn 140 dX5_count_6 (by decide) (by decide) rfl (by decide) (z_aload0 dX5_count_140 (z_getIv fl_X5_406 dX5_count_141 rfl rfl (hR.s7 1 (by decide)) (z_ireturn dX5_count_144 rfl (by decide) (by decide) ?_)))))))
      exact h'
    | 9, _ =>
      refine z_aload0 dX5_count_0 (z_iconst (v := 0) dX5_count_1 (by decide) (z_putI fl_X5_178 dX5_count_2 rfl rfl ⟨rfl, rfl⟩ (z_iload1 dX5_count_5 (z_tabIn 145 dX5_count_6 (by decide) (by decide) rfl (by decide) (z_aload0 dX5_count_145 (z_getIv fl_X5_428 dX5_count_146 rfl rfl (hR.s34 12 (by decide)) (z_ireturn dX5_count_149 rfl (by decide) (by decide) ?_)))))))
      exact h'
    | 10, _ =>
      refine z_aload0 dX5_count_0 (z_iconst (v := 0) dX5_count_1 (by decide) (z_putI fl_X5_178 dX5_count_2 rfl rfl ⟨rfl, rfl⟩ (z_iload1 dX5_count_5 (z_tabIn 150 dX5_count_6 (by decide) (by decide) rfl (by decide) (z_aload0 dX5_count_150 (z_getIv fl_X5_456 dX5_count_151 rfl rfl (hR.s7 5 (by decide)) (z_ireturn dX5_count_154 rfl (by decide) (by decide) ?_)))))))
      exact h'
    | 11, _ =>
      refine z_aload0 dX5_count_0 (z_iconst (v := 0) dX5_count_1 (by decide) (z_putI fl_X5_178 dX5_count_2 rfl rfl ⟨rfl, rfl⟩ (z_iload1 dX5_count_5 (z_tabIn 155 dX5_count_6 (by decide) (by decide) rfl (by decide) (z_aload0 dX5_count_155 (z_getIv fl_X5_465 dX5_count_156 rfl rfl (hR.s7 2 (by decide)) (z_ireturn dX5_count_159 rfl (by decide) (by decide) ?_)))))))
      exact h'
    | 12, _ =>
      have h'' : Q (rI (σ 34 13)) (sI μ 50 0 0 0) := h'
      refine z_aload0 dX5_count_0 (z_iconst (v := 0) dX5_count_1 (by decide) (z_putI fl_X5_178 dX5_count_2 rfl rfl ⟨rfl, rfl⟩ (z_iload1 dX5_count_5 (z_tabIn 160 dX5_count_6 (by decide) (by decide) rfl (by decide) (z_aload0 dX5_count_160 (z_getI fl_X5_484 dX5_count_161 rfl rfl (z_ireturn dX5_count_164 rfl (by decide) (by decide) ?_)))))))
      rw [hT.2.2.1]
      exact h''
    | 13, _ =>
      refine z_aload0 dX5_count_0 (z_iconst (v := 0) dX5_count_1 (by decide) (z_putI fl_X5_178 dX5_count_2 rfl rfl ⟨rfl, rfl⟩ (z_iload1 dX5_count_5 (z_tabIn 165 dX5_count_6 (by decide) (by decide) rfl (by decide) (z_aload0 dX5_count_165 (z_getIv fl_X5_397 dX5_count_166 rfl rfl (hR.s34 3 (by decide)) (z_ireturn dX5_count_169 rfl (by decide) (by decide) ?_)))))))
      exact h'
    | 14, _ =>
      refine z_aload0 dX5_count_0 (z_iconst (v := 0) dX5_count_1 (by decide) (z_putI fl_X5_178 dX5_count_2 rfl rfl ⟨rfl, rfl⟩ (z_iload1 dX5_count_5 (z_tabIn 170 dX5_count_6 (by decide) (by decide) rfl (by decide) (z_aload0 dX5_count_170 (z_getIv fl_X5_481 dX5_count_171 rfl rfl (hR.s7 3 (by decide)) (z_ireturn dX5_count_174 rfl (by decide) (by decide) ?_)))))))
      exact h'
    | 15, _ =>
      have h'' : Q (rI (if lawF σ (σ 7 0) < 0 then 0 else σ 39 (tn (lawF σ (σ 7 0))))) (sI μ 50 0 0 0) := h'
      refine z_aload0 dX5_count_0 (z_iconst (v := 0) dX5_count_1 (by decide) (z_putI fl_X5_178 dX5_count_2 rfl rfl ⟨rfl, rfl⟩ (z_iload1 dX5_count_5 (z_tabIn 175 dX5_count_6 (by decide) (by decide) rfl (by decide) (z_aload0 dX5_count_175 (z_aload0 dX5_count_176 (z_getIv fl_X5_314 dX5_count_177 rfl rfl (hR.s7 0 (by decide)) (z_invV1 (md_X5_lawOf _) cv_X5_359 rfl dX5_count_180 rfl (by decide) (Rm.ofB rfl) (M_lawOf hM hR hl hl2 (z_if_ge 190 dX5_count_183 (by decide) (fun c_183 => ?_) (fun c_183 => ?_)))))))))))
      · rw [if_neg (Int32.not_lt.mpr c_183)] at h''
        rcases lawS_in σ (σ 7 0) (tn (σ 34 0)) with e | ⟨j, hj2, e⟩
        · rw [show lawF σ (σ 7 0) = -1 from e] at c_183
          exact absurd c_183 (by decide)
        · have e' : lawF σ (σ 7 0) = nI j := e
          rw [hl, tn_nI (by omega)] at hj2
          rw [e', tn_nI (by omega)] at h''
          refine z_aload0 dX5_count_190 (z_getP (v := some (62, 0)) fl_X5_24 dX5_count_191 rfl rfl (hM 11 rfl) (z_aload0 dX5_count_194 (z_aload0 dX5_count_195 (z_getIv fl_X5_314 dX5_count_196 rfl rfl (hR.s7 0 (by decide)) (z_invV1 (md_X5_lawOf _) cv_X5_359 rfl dX5_count_199 rfl (by decide) (Rm.ofB rfl) (M_lawOf hM hR hl hl2 (z_ialdv dX5_count_202 rfl ⟨e', (show j < 13 by omega), Nat.le_of_ble_eq_true rfl⟩ (hR.col 39 _ (by decide)) (z_ireturn dX5_count_203 rfl (by decide) (by decide) ?_))))))))
          exact h''
      · rw [if_pos (Int32.not_le.mp c_183)] at h''
        refine z_iconst (v := 0) dX5_count_186 (by decide) (z_goto 203 dX5_count_187 (by decide) (z_ireturn dX5_count_203 rfl (by decide) (by decide) ?_))
        exact h''
    | 16, _ =>
      refine z_aload0 dX5_count_0 (z_iconst (v := 0) dX5_count_1 (by decide) (z_putI fl_X5_178 dX5_count_2 rfl rfl ⟨rfl, rfl⟩ (z_iload1 dX5_count_5 (z_tabIn 204 dX5_count_6 (by decide) (by decide) rfl (by decide) (z_aload0 dX5_count_204 (z_bipush (v := 9) dX5_count_205 (by decide) (z_bipush (v := 9) dX5_count_207 (by decide) (z_invV2 (md_X5_inState _) cv_X5_493 rfl dX5_count_209 rfl (by decide) (Rm.ofB rfl) (M_inState hM hR hn hn2 (z_ireturn dX5_count_212 rfl (by decide) (by decide) ?_))))))))))
      exact h'
    | 17, _ =>
      refine z_aload0 dX5_count_0 (z_iconst (v := 0) dX5_count_1 (by decide) (z_putI fl_X5_178 dX5_count_2 rfl rfl ⟨rfl, rfl⟩ (z_iload1 dX5_count_5 (z_tabIn 213 dX5_count_6 (by decide) (by decide) rfl (by decide) (z_aload0 dX5_count_213 (z_bipush (v := 8) dX5_count_214 (by decide) (z_bipush (v := 8) dX5_count_216 (by decide) (z_invV2 (md_X5_inState _) cv_X5_493 rfl dX5_count_218 rfl (by decide) (Rm.ofB rfl) (M_inState hM hR hn hn2 (z_ireturn dX5_count_221 rfl (by decide) (by decide) ?_))))))))))
      exact h'
    | j + 18, hj => omega
  · have e : countF σ w = -1 := by
      have ne : ∀ k : Nat, k ≤ 17 → ¬ w = nI k := fun k hk q => h2 (by rw [q]; exact ⟨nI_pos' (by omega), by rw [show (17 : Int32) = nI 17 from rfl]; exact nI_le hk (by decide)⟩)
      unfold countF
      rw [if_neg (show ¬ w = 0 from ne 0 (by decide)), if_neg (show ¬ w = 1 from ne 1 (by decide)), if_neg (show ¬ w = 2 from ne 2 (by decide)), if_neg (show ¬ w = 3 from ne 3 (by decide)), if_neg (show ¬ w = 4 from ne 4 (by decide)), if_neg (show ¬ w = 5 from ne 5 (by decide)), if_neg (show ¬ w = 6 from ne 6 (by decide)), if_neg (show ¬ w = 7 from ne 7 (by decide)), if_neg (show ¬ w = 8 from ne 8 (by decide)), if_neg (show ¬ w = 9 from ne 9 (by decide)), if_neg (show ¬ w = 10 from ne 10 (by decide)), if_neg (show ¬ w = 11 from ne 11 (by decide)), if_neg (show ¬ w = 12 from ne 12 (by decide)), if_neg (show ¬ w = 13 from ne 13 (by decide)), if_neg (show ¬ w = 14 from ne 14 (by decide)), if_neg (show ¬ w = 15 from ne 15 (by decide)), if_neg (show ¬ w = 16 from ne 16 (by decide)), if_neg (show ¬ w = 17 from ne 17 (by decide))]
    rw [pCount, e] at h'
    refine z_aload0 dX5_count_0 (z_iconst (v := 0) dX5_count_1 (by decide) (z_putI fl_X5_178 dX5_count_2 rfl rfl ⟨rfl, rfl⟩ (z_iload1 dX5_count_5 (z_tabOut 222 dX5_count_6 (out_nI h2 (by decide) (by decide)) (by decide) (z_iconst (v := (-1)) dX5_count_222 (by decide) (z_ireturn dX5_count_223 rfl (by decide) (by decide) ?_))))))
    exact h'
end M8
