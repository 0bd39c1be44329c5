/-! Model: reading signs, words, numbers -/
section M14
variable {μ μ' : Mem} {Q : Res → Mem → Prop} {T : Nat → Int32} {e a b : Nat}
/-- the text lies on the tape, to its end e; the point stands at a -/
def RD (T : Nat → Int32) (e a : Nat) (μ : Mem) : Prop := MOK μ ∧ (gI μ 50 0 5 = nI e ∧ e ≤ 400) ∧ (gI μ 50 0 4 = nI a ∧ a ≤ e) ∧ ∀ j, gI μ 53 0 j = T j
/-- point and begin -/
def SR : Nat → Nat → Nat → Prop := fun p i k => p = 50 ∧ i = 0 ∧ (k = 4 ∨ k = 6)
theorem RD.dif {S : Nat → Nat → Nat → Prop} (h : RD T e a μ) (hD : Dif S μ μ') (h4 : gI μ' 50 0 4 = nI b) (hb : b ≤ e) (hS : ¬ S 50 0 5 ∧ ∀ j, ¬ S 53 0 j) : RD T e b μ' :=
  ⟨h.1.of hD.1, ⟨(hD.2 _ _ _ hS.1).trans h.2.1.1, h.2.1.2⟩, ⟨h4, hb⟩, fun j => (hD.2 _ _ _ (hS.2 j)).trans (h.2.2.2 j)⟩
theorem nSR : ¬ SR 50 0 5 ∧ ∀ j, ¬ SR 53 0 j := ⟨fun q => by have := q.2.2; omega, fun j q => by have := q.1; omega⟩
theorem M_isAt {lo hi : Int32} (hr : RD T e a μ) (h : Q (rI (bI (decide (a < e ∧ lo ≤ T a ∧ T a ≤ hi)))) μ) : Ct RX5 cX5_isAt (3, some .boolean, [], false, rmm 1 0 0) [vr 50 0, vi lo, vi hi] μ Q := by
  refine Ct.of (ls := [some (vr 50 0), some (vi lo), some (vi hi)]) rfl fun Γ C ad => ?_
  obtain ⟨hM, ⟨he, he2⟩, ⟨ha, ha2⟩, ht⟩ := hr
  have no : ¬ (a < e ∧ lo ≤ T a ∧ T a ≤ hi) → Z RX5 cX5_isAt (3, some .boolean, [], false, rmm 1 0 0) (Γ, C, μ, ad, Q) (0) (0) (μ) 41 [some (vr 50 0), some (vi lo), some (vi hi)] [] := by
    intro q
    rw [decide_eq_false q] at h
    refine z_iconst (v := 0) dX5_isAt_41 (by decide) (z_zreturn dX5_isAt_42 rfl rfl (by decide) (by decide) ?_)
    exact h
  by_cases q1 : a < e
  · have hn : ¬ gI μ 50 0 5 ≤ gI μ 50 0 4 := by rw [he, ha]; exact nI_ge q1 (by omega)
    have ix : Ix (gI μ 50 0 4) a 400 := ⟨ha, by omega, by decide⟩
    refine z_aload0 dX5_isAt_0 (z_getI fl_X5_187 dX5_isAt_1 rfl rfl (z_aload0 dX5_isAt_4 (z_getI fl_X5_184 dX5_isAt_5 rfl rfl (z_icmp_ge 41 dX5_isAt_8 (by decide) (fun c => absurd c (hn)) (fun _ => z_aload0 dX5_isAt_11 (z_getP (v := some (53, 0)) fl_X5_9 dX5_isAt_12 rfl rfl (hM 2 rfl) (z_aload0 dX5_isAt_15 (z_getI fl_X5_187 dX5_isAt_16 rfl rfl (z_baldv dX5_isAt_19 rfl ix (ht a) (z_iload1 dX5_isAt_20 (z_icmp_lt 41 dX5_isAt_21 (by decide) (fun c_21 => ?_) (fun c_21 => ?_))))))))))))
    · exact no fun q => absurd q.2.1 (Int32.not_le.mpr c_21)
    · refine z_aload0 dX5_isAt_24 (z_getP (v := some (53, 0)) fl_X5_9 dX5_isAt_25 rfl rfl (hM 2 rfl) (z_aload0 dX5_isAt_28 (z_getI fl_X5_187 dX5_isAt_29 rfl rfl (z_baldv dX5_isAt_32 rfl ix (ht a) (z_iload2 dX5_isAt_33 (z_icmp_gt 41 dX5_isAt_34 (by decide) (fun c_34 => ?_) (fun c_34 => ?_)))))))
      · exact no fun q => absurd q.2.2 (Int32.not_le.mpr c_34)
      · rw [decide_eq_true ⟨q1, Int32.not_lt.mp c_21, Int32.not_lt.mp c_34⟩] at h
        refine z_iconst (v := 1) dX5_isAt_37 (by decide) (z_goto 42 dX5_isAt_38 (by decide) (z_zreturn dX5_isAt_42 rfl rfl (by decide) (by decide) ?_))
        exact h
  · refine z_aload0 dX5_isAt_0 (z_getI fl_X5_187 dX5_isAt_1 rfl rfl (z_aload0 dX5_isAt_4 (z_getI fl_X5_184 dX5_isAt_5 rfl rfl (z_icmp_ge 41 dX5_isAt_8 (by decide) (fun _ => ?_) (fun c => absurd ((by rw [he, ha]; exact nI_le (by omega) (by omega))) c)))))
    exact no fun q => q1 q.1
theorem rng1 {x c : Int32} : (c ≤ x ∧ x ≤ c) ↔ x = c := ⟨fun q => Int32.le_antisymm q.2 q.1, fun q => by rw [q]; exact ⟨Int32.le_refl _, Int32.le_refl _⟩⟩
/-- the point goes on as long as g holds -/
theorem M_blanks (hr : RD T e a μ) (h : ∀ μ', RD T e (skB T e a) μ' → gI μ' 50 0 6 = nI (skB T e a) → Dif SR μ μ' → Q rV μ') : Ct RX5 cX5_blanksBetween (1, none, [], false, rmm 2 0 0) [vr 50 0] μ Q := by
  refine Ct.of (ls := [some (vr 50 0)]) rfl fun Γ C ad => ?_
  have lp : ∀ m a μ1, e - a = m → RD T e a μ1 → Dif SR μ μ1 → (∀ μ', RD T e (skB T e a) μ' → gI μ' 50 0 6 = nI (skB T e a) → Dif SR μ μ' → Q rV μ') → Z RX5 cX5_blanksBetween (1, none, [], false, rmm 2 0 0) (Γ, C, μ, ad, Q) (0) (0) (μ1) 0 [some (vr 50 0)] [] := by
    intro m
    induction m with
    | zero =>
      intro a μ1 hm hr1 hD1 h1
      rw [show skB T e a = a from skE_f (fun q => by omega)] at h1
      refine z_aload0 dX5_blanksBetween_0 (z_bipush (v := 32) dX5_blanksBetween_1 (by decide) (z_bipush (v := 32) dX5_blanksBetween_3 (by decide) (z_invV2 (md_X5_isAt _) cv_X5_190 rfl dX5_blanksBetween_5 rfl (by decide) (Rm.ofB rfl) (M_isAt hr1 (z_if_eq 24 dX5_blanksBetween_8 (by decide) (fun _ => z_aload0 dX5_blanksBetween_24 (z_aload0 dX5_blanksBetween_25 (z_getI fl_X5_187 dX5_blanksBetween_26 rfl rfl (z_putI fl_X5_194 dX5_blanksBetween_29 rfl rfl ⟨rfl, rfl⟩ (z_return dX5_blanksBetween_32 rfl (by decide) (by decide) ?_))))) (fun c => absurd ((by rw [decide_eq_false (fun q => by omega)]; rfl)) c))))))
      exact h1 _ (hr1.dif (Dif.sI (S := SR) ⟨rfl, rfl, Or.inr rfl⟩) (by rw [gI_sI, if_neg (by simp)]; exact hr1.2.2.1.1) hr1.2.2.1.2 nSR) (by rw [gI_sI, if_pos ⟨rfl, rfl, rfl⟩]; exact hr1.2.2.1.1) (hD1.tr (Dif.sI ⟨rfl, rfl, Or.inr rfl⟩))
    | succ m ih =>
      intro a μ1 hm hr1 hD1 h1
      by_cases q : T a = 32
      · rw [show skB T e a = skB T e (a + 1) from skE_t (by omega) (by simp [blk, q])] at h1
        refine z_aload0 dX5_blanksBetween_0 (z_bipush (v := 32) dX5_blanksBetween_1 (by decide) (z_bipush (v := 32) dX5_blanksBetween_3 (by decide) (z_invV2 (md_X5_isAt _) cv_X5_190 rfl dX5_blanksBetween_5 rfl (by decide) (Rm.ofB rfl) (M_isAt hr1 (z_if_eq 24 dX5_blanksBetween_8 (by decide) (fun c => absurd c ((by rw [decide_eq_true ⟨by omega, rng1.mpr q⟩]; decide))) (fun _ => z_aload0 dX5_blanksBetween_11 (z_dupa dX5_blanksBetween_12 (z_getI fl_X5_187 dX5_blanksBetween_13 rfl rfl (z_iconst (v := 1) dX5_blanksBetween_16 (by decide) (z_iadd dX5_blanksBetween_17 (z_putI fl_X5_187 dX5_blanksBetween_18 rfl rfl ⟨rfl, rfl⟩ (z_goto 0 dX5_blanksBetween_21 (by decide) ?_))))))))))))
        have e1 : gI (sI μ1 50 0 4 (gI μ1 50 0 4 + 1)) 50 0 4 = nI (a + 1) := by rw [gI_sI, if_pos ⟨rfl, rfl, rfl⟩, hr1.2.2.1.1, nI_1]
        exact ih (a + 1) _ (by omega) (hr1.dif (Dif.sI (S := SR) ⟨rfl, rfl, Or.inl rfl⟩) e1 (by omega) nSR) (hD1.tr (Dif.sI ⟨rfl, rfl, Or.inl rfl⟩)) h1
      · rw [show skB T e a = a from skE_f (fun z => q (by simpa [blk] using z.2))] at h1
        refine z_aload0 dX5_blanksBetween_0 (z_bipush (v := 32) dX5_blanksBetween_1 (by decide) (z_bipush (v := 32) dX5_blanksBetween_3 (by decide) (z_invV2 (md_X5_isAt _) cv_X5_190 rfl dX5_blanksBetween_5 rfl (by decide) (Rm.ofB rfl) (M_isAt hr1 (z_if_eq 24 dX5_blanksBetween_8 (by decide) (fun _ => z_aload0 dX5_blanksBetween_24 (z_aload0 dX5_blanksBetween_25 (z_getI fl_X5_187 dX5_blanksBetween_26 rfl rfl (z_putI fl_X5_194 dX5_blanksBetween_29 rfl rfl ⟨rfl, rfl⟩ (z_return dX5_blanksBetween_32 rfl (by decide) (by decide) ?_))))) (fun c => absurd ((by rw [decide_eq_false (fun z => q (rng1.mp z.2))]; rfl)) c))))))
        exact h1 _ (hr1.dif (Dif.sI (S := SR) ⟨rfl, rfl, Or.inr rfl⟩) (by rw [gI_sI, if_neg (by simp)]; exact hr1.2.2.1.1) hr1.2.2.1.2 nSR) (by rw [gI_sI, if_pos ⟨rfl, rfl, rfl⟩]; exact hr1.2.2.1.1) (hD1.tr (Dif.sI ⟨rfl, rfl, Or.inr rfl⟩))
  exact lp _ a μ rfl hr Dif.rf h
theorem M_word (hr : RD T e a μ) (h : ∀ μ', RD T e (wdE T e (skB T e a)) μ' → gI μ' 50 0 6 = nI (skB T e a) → Dif SR μ μ' → Q rV μ') : Ct RX5 cX5_word (1, none, [], false, rmm 3 0 0) [vr 50 0] μ Q := by
  refine Ct.of (ls := [some (vr 50 0)]) rfl fun Γ C ad => ?_
  refine z_aload0 dX5_word_0 (z_invV0 (md_X5_blanksBetween _) cv_X5_197 rfl dX5_word_1 rfl (by decide) (Rm.ofB rfl) (M_blanks hr (fun μ1 hr1 hb1 hD1 => ?_)))
  have lp : ∀ m a2 μ2, e - a2 = m → RD T e a2 μ2 → gI μ2 50 0 6 = nI (skB T e a) → Dif SR μ μ2 → (∀ μ', RD T e (wdE T e a2) μ' → gI μ' 50 0 6 = nI (skB T e a) → Dif SR μ μ' → Q rV μ') → Z RX5 cX5_word (1, none, [], false, rmm 3 0 0) (Γ, C, μ, ad, Q) (0) (0) (μ2) 4 [some (vr 50 0)] [] := by
    intro m
    induction m with
    | zero =>
      intro a2 μ2 hm hr2 hb2 hD2 h2
      rw [show wdE T e a2 = a2 from skE_f (fun q => by omega)] at h2
      refine z_aload0 dX5_word_4 (z_bipush (v := 97) dX5_word_5 (by decide) (z_bipush (v := 122) dX5_word_7 (by decide) (z_invV2 (md_X5_isAt _) cv_X5_190 rfl dX5_word_9 rfl (by decide) (Rm.ofB rfl) (M_isAt hr2 (z_if_eq 28 dX5_word_12 (by decide) (fun _ => z_return dX5_word_28 rfl (by decide) (by decide) ?_) (fun c => absurd ((by rw [decide_eq_false (fun q => by omega)]; rfl)) c))))))
      exact h2 _ hr2 hb2 hD2
    | succ m ih =>
      intro a2 μ2 hm hr2 hb2 hD2 h2
      by_cases q : 97 ≤ T a2 ∧ T a2 ≤ 122
      · rw [show wdE T e a2 = wdE T e (a2 + 1) from skE_t (by omega) (by simp [ltr, q])] at h2
        refine z_aload0 dX5_word_4 (z_bipush (v := 97) dX5_word_5 (by decide) (z_bipush (v := 122) dX5_word_7 (by decide) (z_invV2 (md_X5_isAt _) cv_X5_190 rfl dX5_word_9 rfl (by decide) (Rm.ofB rfl) (M_isAt hr2 (z_if_eq 28 dX5_word_12 (by decide) (fun c => absurd c ((by rw [decide_eq_true ⟨by omega, q⟩]; decide))) (fun _ => z_aload0 dX5_word_15 (z_dupa dX5_word_16 (z_getI fl_X5_187 dX5_word_17 rfl rfl (z_iconst (v := 1) dX5_word_20 (by decide) (z_iadd dX5_word_21 (z_putI fl_X5_187 dX5_word_22 rfl rfl ⟨rfl, rfl⟩ (z_goto 4 dX5_word_25 (by decide) ?_))))))))))))
        have e1 : gI (sI μ2 50 0 4 (gI μ2 50 0 4 + 1)) 50 0 4 = nI (a2 + 1) := by rw [gI_sI, if_pos ⟨rfl, rfl, rfl⟩, hr2.2.2.1.1, nI_1]
        exact ih (a2 + 1) _ (by omega) (hr2.dif (Dif.sI (S := SR) ⟨rfl, rfl, Or.inl rfl⟩) e1 (by omega) nSR) (by rw [gI_sI, if_neg (by simp)]; exact hb2) (hD2.tr (Dif.sI ⟨rfl, rfl, Or.inl rfl⟩)) h2
      · rw [show wdE T e a2 = a2 from skE_f (fun z => q (by simpa [ltr] using z.2))] at h2
        refine z_aload0 dX5_word_4 (z_bipush (v := 97) dX5_word_5 (by decide) (z_bipush (v := 122) dX5_word_7 (by decide) (z_invV2 (md_X5_isAt _) cv_X5_190 rfl dX5_word_9 rfl (by decide) (Rm.ofB rfl) (M_isAt hr2 (z_if_eq 28 dX5_word_12 (by decide) (fun _ => z_return dX5_word_28 rfl (by decide) (by decide) ?_) (fun c => absurd ((by rw [decide_eq_false (fun z => q z.2)]; rfl)) c))))))
        exact h2 _ hr2 hb2 hD2
  exact lp _ _ μ1 rfl hr1 hb1 hD1 h
theorem M_isWord {i p : Nat} {txt : List Int32} (hs : strB[i]? = some txt) (hr : RD T e p μ) (hb : gI μ 50 0 6 = nI b) (hbp : b ≤ p) (h : Q (rI (bI (isW T b p txt))) μ) : Ct RX5 cX5_isWord (4, some .boolean, [], false, rmm 5 0 0) [vr 50 0, vr 0 i] μ Q := by
  refine Ct.of (ls := [some (vr 50 0), some (vr 0 i), none, none]) rfl fun Γ C ad => ?_
  have hl := strB_len txt (List.mem_of_getElem? hs)
  obtain ⟨hM, ⟨he, he2⟩, ⟨hp, hp2⟩, ht⟩ := hr
  have e1 : gI μ 50 0 4 - gI μ 50 0 6 = nI (p - b) := by
    rw [hp, hb]
    have : p = (p - b) + b := by omega
    rw [this, ← nI_add, Int32.add_sub_cancel, show p - b + b - b = p - b by omega]
  by_cases q : p - b = txt.length
  · have lp : ∀ k, k ≤ txt.length → eqS T b txt k = true → Z RX5 cX5_isWord (4, some .boolean, [], false, rmm 5 0 0) (Γ, C, μ, ad, Q) (0) (0) (μ) 24 [some (vr 50 0), some (vr 0 i), some (vi 1), some (vi (nI k))] [] := by
      refine loopN (P := fun k => eqS T b txt k = true → Z RX5 cX5_isWord (4, some .boolean, [], false, rmm 5 0 0) (Γ, C, μ, ad, Q) (0) (0) (μ) 24 [some (vr 50 0), some (vr 0 i), some (vi 1), some (vi (nI k))] []) txt.length ?_ ?_
      · intro hq
        rw [show isW T b p txt = true by unfold isW; rw [hq, decide_eq_true q]; rfl] at h
        refine z_iload2 dX5_isWord_24 (z_if_eq 67 dX5_isWord_25 (by decide) (fun c => absurd c (n10)) (fun _ => z_iload3 dX5_isWord_28 (z_aload1 dX5_isWord_29 (z_invZ0 hs (md_J4_length _) cz_X5_200 dX5_isWord_30 (by decide) (Rm.ofB rfl) (S_length hs (z_icmp_ge 67 dX5_isWord_33 (by decide) (fun _ => z_iload2 dX5_isWord_67 (z_zreturn dX5_isWord_68 rfl rfl (by decide) (by decide) ?_)) (fun c => absurd (Int32.le_refl _) c)))))))
        exact h
      · intro k hk ih hq
        have ix : Ix (gI μ 50 0 6 + nI k) (b + k) 400 := ⟨by rw [hb, nI_add], by omega, by decide⟩
        by_cases q2 : T (b + k) = txt.getD k 0
        · refine z_iload2 dX5_isWord_24 (z_if_eq 67 dX5_isWord_25 (by decide) (fun c => absurd c (n10)) (fun _ => z_iload3 dX5_isWord_28 (z_aload1 dX5_isWord_29 (z_invZ0 hs (md_J4_length _) cz_X5_200 dX5_isWord_30 (by decide) (Rm.ofB rfl) (S_length hs (z_icmp_ge 67 dX5_isWord_33 (by decide) (fun c => absurd c (nI_ge hk (by omega))) (fun _ => z_aload0 dX5_isWord_36 (z_getP (v := some (53, 0)) fl_X5_9 dX5_isWord_37 rfl rfl (hM 2 rfl) (z_aload0 dX5_isWord_40 (z_getI fl_X5_194 dX5_isWord_41 rfl rfl (z_iload3 dX5_isWord_44 (z_iadd dX5_isWord_45 (z_baldv dX5_isWord_46 rfl ix (ht (b + k)) (z_aload1 dX5_isWord_47 (z_iload3 dX5_isWord_48 (z_invZ1 hs (md_J4_charAt _) cz_X5_206 dX5_isWord_49 (by decide) (Rm.ofB rfl) (S_charAt hs rfl hk (z_icmp_ne 59 dX5_isWord_52 (by decide) (fun c => absurd (q2) c) (fun _ => z_iconst (v := 1) dX5_isWord_55 (by decide) (z_goto 60 dX5_isWord_56 (by decide) (z_istore2 dX5_isWord_60 (z_iinc3 dX5_isWord_61 (inc1 k) (z_goto 24 dX5_isWord_64 (by decide) ?_)))))))))))))))))))))))
          exact ih (by rw [eqS, hq, decide_eq_true q2]; rfl)
        · rw [show isW T b p txt = false by unfold isW; rw [eqS_no q2 _ hk]; exact Bool.and_false _] at h
          refine z_iload2 dX5_isWord_24 (z_if_eq 67 dX5_isWord_25 (by decide) (fun c => absurd c (n10)) (fun _ => z_iload3 dX5_isWord_28 (z_aload1 dX5_isWord_29 (z_invZ0 hs (md_J4_length _) cz_X5_200 dX5_isWord_30 (by decide) (Rm.ofB rfl) (S_length hs (z_icmp_ge 67 dX5_isWord_33 (by decide) (fun c => absurd c (nI_ge hk (by omega))) (fun _ => z_aload0 dX5_isWord_36 (z_getP (v := some (53, 0)) fl_X5_9 dX5_isWord_37 rfl rfl (hM 2 rfl) (z_aload0 dX5_isWord_40 (z_getI fl_X5_194 dX5_isWord_41 rfl rfl (z_iload3 dX5_isWord_44 (z_iadd dX5_isWord_45 (z_baldv dX5_isWord_46 rfl ix (ht (b + k)) (z_aload1 dX5_isWord_47 (z_iload3 dX5_isWord_48 (z_invZ1 hs (md_J4_charAt _) cz_X5_206 dX5_isWord_49 (by decide) (Rm.ofB rfl) (S_charAt hs rfl hk (z_icmp_ne 59 dX5_isWord_52 (by decide) (fun _ => z_iconst (v := 0) dX5_isWord_59 (by decide) (z_istore2 dX5_isWord_60 (z_iinc3 dX5_isWord_61 (inc1 k) (z_goto 24 dX5_isWord_64 (by decide) ?_)))) (fun c => absurd c (q2))))))))))))))))))))
          refine z_iload2 dX5_isWord_24 (z_if_eq 67 dX5_isWord_25 (by decide) (fun _ => z_iload2 dX5_isWord_67 (z_zreturn dX5_isWord_68 rfl rfl (by decide) (by decide) ?_)) (fun c => absurd (rfl) c))
          exact h
    refine z_aload0 dX5_isWord_0 (z_getI fl_X5_187 dX5_isWord_1 rfl rfl (z_aload0 dX5_isWord_4 (z_getI fl_X5_194 dX5_isWord_5 rfl rfl (z_isub dX5_isWord_8 (z_aload1 dX5_isWord_9 (z_invZ0 hs (md_J4_length _) cz_X5_200 dX5_isWord_10 (by decide) (Rm.ofB rfl) (S_length hs (z_icmp_ne 20 dX5_isWord_13 (by decide) (fun c => absurd ((by rw [e1, q])) c) (fun _ => z_iconst (v := 1) dX5_isWord_16 (by decide) (z_goto 21 dX5_isWord_17 (by decide) (z_istore2 dX5_isWord_21 (z_iconst (v := 0) dX5_isWord_22 (by decide) (z_istore3 dX5_isWord_23 ?_)))))))))))))
    exact lp 0 (Nat.zero_le _) rfl
  · rw [show isW T b p txt = false by unfold isW; rw [decide_eq_false q]; rfl] at h
    refine z_aload0 dX5_isWord_0 (z_getI fl_X5_187 dX5_isWord_1 rfl rfl (z_aload0 dX5_isWord_4 (z_getI fl_X5_194 dX5_isWord_5 rfl rfl (z_isub dX5_isWord_8 (z_aload1 dX5_isWord_9 (z_invZ0 hs (md_J4_length _) cz_X5_200 dX5_isWord_10 (by decide) (Rm.ofB rfl) (S_length hs (z_icmp_ne 20 dX5_isWord_13 (by decide) (fun _ => z_iconst (v := 0) dX5_isWord_20 (by decide) (z_istore2 dX5_isWord_21 (z_iconst (v := 0) dX5_isWord_22 (by decide) (z_istore3 dX5_isWord_23 ?_)))) (fun c => absurd c ((by rw [e1]; exact fun z => q ((nI_eq (by omega) (by omega)).mp z))))))))))))
    refine z_iload2 dX5_isWord_24 (z_if_eq 67 dX5_isWord_25 (by decide) (fun _ => z_iload2 dX5_isWord_67 (z_zreturn dX5_isWord_68 rfl rfl (by decide) (by decide) ?_)) (fun c => absurd (rfl) c))
    exact h
theorem M_passes {i : Nat} {txt : List Int32} (hs : strB[i]? = some txt) (hr : RD T e a μ) (h : ∀ μ', RD T e (if isW T (skB T e a) (wdE T e (skB T e a)) txt then wdE T e (skB T e a) else skB T e a) μ' → gI μ' 50 0 6 = nI (skB T e a) → Dif SR μ μ' → Q (rI (bI (isW T (skB T e a) (wdE T e (skB T e a)) txt))) μ') : Ct RX5 cX5_passes (2, some .boolean, [], false, rmm 6 0 0) [vr 50 0, vr 0 i] μ Q := by
  refine Ct.of (ls := [some (vr 50 0), some (vr 0 i)]) rfl fun Γ C ad => ?_
  refine z_aload0 dX5_passes_0 (z_invV0 (md_X5_word _) cv_X5_210 rfl dX5_passes_1 rfl (by decide) (Rm.ofB rfl) (M_word hr (fun μ1 hr1 hb1 hD1 => ?_)))
  cases hw : isW T (skB T e a) (wdE T e (skB T e a)) txt with
  | true =>
    rw [hw, if_pos rfl] at h
    refine z_aload0 dX5_passes_4 (z_aload1 dX5_passes_5 (z_invV1 (md_X5_isWord _) cv_X5_213 rfl dX5_passes_6 rfl (by decide) (Rm.ofB rfl) (M_isWord hs hr1 hb1 (skE_ge _ _ _ _) (z_if_eq 14 dX5_passes_9 (by decide) (fun c => absurd c ((by rw [hw]; exact n10))) (fun _ => z_iconst (v := 1) dX5_passes_12 (by decide) (z_zreturn dX5_passes_13 rfl rfl (by decide) (by decide) ?_))))))
    exact h _ hr1 hb1 hD1
  | false =>
    rw [hw, if_neg (by decide)] at h
    refine z_aload0 dX5_passes_4 (z_aload1 dX5_passes_5 (z_invV1 (md_X5_isWord _) cv_X5_213 rfl dX5_passes_6 rfl (by decide) (Rm.ofB rfl) (M_isWord hs hr1 hb1 (skE_ge _ _ _ _) (z_if_eq 14 dX5_passes_9 (by decide) (fun _ => z_aload0 dX5_passes_14 (z_aload0 dX5_passes_15 (z_getI fl_X5_194 dX5_passes_16 rfl rfl (z_putI fl_X5_187 dX5_passes_19 rfl rfl ⟨rfl, rfl⟩ (z_iconst (v := 0) dX5_passes_22 (by decide) (z_zreturn dX5_passes_23 rfl rfl (by decide) (by decide) ?_)))))) (fun c => absurd ((by rw [hw]; rfl)) c)))))
    rw [hb1]
    exact h _ (hr1.dif (Dif.sI (S := SR) ⟨rfl, rfl, Or.inl rfl⟩) (by rw [gI_sI, if_pos ⟨rfl, rfl, rfl⟩]) (skE_le hr.2.2.1.2) nSR) (by rw [gI_sI, if_neg (by simp)]; exact hb1) (hD1.tr (Dif.sI ⟨rfl, rfl, Or.inl rfl⟩))
theorem M_passesSign {c : Int32} (hr : RD T e a μ) (h : ∀ μ', RD T e (if skB T e a < e ∧ T (skB T e a) = c then skB T e a + 1 else skB T e a) μ' → gI μ' 50 0 6 = nI (skB T e a) → Dif SR μ μ' → Q (rI (bI (decide (skB T e a < e ∧ T (skB T e a) = c)))) μ') : Ct RX5 cX5_passesSign (2, some .boolean, [], false, rmm 3 0 0) [vr 50 0, vi c] μ Q := by
  refine Ct.of (ls := [some (vr 50 0), some (vi c)]) rfl fun Γ C ad => ?_
  refine z_aload0 dX5_passesSign_0 (z_invV0 (md_X5_blanksBetween _) cv_X5_197 rfl dX5_passesSign_1 rfl (by decide) (Rm.ofB rfl) (M_blanks hr (fun μ1 hr1 hb1 hD1 => ?_)))
  by_cases q : skB T e a < e ∧ T (skB T e a) = c
  · rw [if_pos q, decide_eq_true q] at h
    refine z_aload0 dX5_passesSign_4 (z_iload1 dX5_passesSign_5 (z_iload1 dX5_passesSign_6 (z_invV2 (md_X5_isAt _) cv_X5_190 rfl dX5_passesSign_7 rfl (by decide) (Rm.ofB rfl) (M_isAt hr1 (z_if_ne 15 dX5_passesSign_10 (by decide) (fun _ => z_aload0 dX5_passesSign_15 (z_dupa dX5_passesSign_16 (z_getI fl_X5_187 dX5_passesSign_17 rfl rfl (z_iconst (v := 1) dX5_passesSign_20 (by decide) (z_iadd dX5_passesSign_21 (z_putI fl_X5_187 dX5_passesSign_22 rfl rfl ⟨rfl, rfl⟩ (z_iconst (v := 1) dX5_passesSign_25 (by decide) (z_zreturn dX5_passesSign_26 rfl rfl (by decide) (by decide) ?_)))))))) (fun c => absurd c ((by rw [decide_eq_true ⟨q.1, rng1.mpr q.2⟩]; exact n10))))))))
    exact h _ (hr1.dif (Dif.sI (S := SR) ⟨rfl, rfl, Or.inl rfl⟩) (by rw [gI_sI, if_pos ⟨rfl, rfl, rfl⟩, hr1.2.2.1.1, nI_1]) (by omega) nSR) (by rw [gI_sI, if_neg (by simp)]; exact hb1) (hD1.tr (Dif.sI ⟨rfl, rfl, Or.inl rfl⟩))
  · rw [if_neg q, decide_eq_false q] at h
    refine z_aload0 dX5_passesSign_4 (z_iload1 dX5_passesSign_5 (z_iload1 dX5_passesSign_6 (z_invV2 (md_X5_isAt _) cv_X5_190 rfl dX5_passesSign_7 rfl (by decide) (Rm.ofB rfl) (M_isAt hr1 (z_if_ne 15 dX5_passesSign_10 (by decide) (fun c => absurd ((by rw [decide_eq_false (fun z => q ⟨z.1, rng1.mp z.2⟩)]; rfl)) c) (fun _ => z_iconst (v := 0) dX5_passesSign_13 (by decide) (z_zreturn dX5_passesSign_14 rfl rfl (by decide) (by decide) ?_)))))))
    exact h _ hr1 hb1 hD1
theorem M_number (hr : RD T e a μ) (h : ∀ μ', RD T e (dgE T e (skB T e a)) μ' → gI μ' 50 0 6 = nI (skB T e a) → Dif SR μ μ' → Q (rI (if dgE T e (skB T e a) = skB T e a ∨ 4 < dgE T e (skB T e a) - skB T e a then -1 else numV T (skB T e a) (dgE T e (skB T e a) - skB T e a))) μ') : Ct RX5 cX5_number (2, some .int, [], false, rmm 3 0 0) [vr 50 0] μ Q := by
  refine Ct.of (ls := [some (vr 50 0), none]) rfl fun Γ C ad => ?_
  refine z_aload0 dX5_number_0 (z_invV0 (md_X5_blanksBetween _) cv_X5_197 rfl dX5_number_1 rfl (by decide) (Rm.ofB rfl) (M_blanks hr (fun μ1 hr1 hb1 hD1 => ?_)))
  generalize skB T e a = b0 at *
  have fin : ∀ (k : Nat) μ2, RD T e (b0 + k) μ2 → gI μ2 50 0 6 = nI b0 → Dif SR μ μ2 → dgE T e b0 = b0 + k → Z RX5 cX5_number (2, some .int, [], false, rmm 3 0 0) (Γ, C, μ, ad, Q) (0) (0) (μ2) 65 [some (vr 50 0), some (vi (numV T b0 (min k 4)))] [] := by
    intro k μ2 hr2 hb2 hD2 hk
    have hle := hr2.2.2.1.2
    have he4 := hr2.2.1.2
    rw [hk, show b0 + k - b0 = k by omega] at h
    have ed : gI μ2 50 0 4 - gI μ2 50 0 6 = nI k := by
      rw [hr2.2.2.1.1, hb2, Nat.add_comm, ← nI_add, Int32.add_sub_cancel]
    by_cases q1 : k = 0
    · rw [if_pos (Or.inl (by omega))] at h
      refine z_aload0 dX5_number_65 (z_getI fl_X5_187 dX5_number_66 rfl rfl (z_aload0 dX5_number_69 (z_getI fl_X5_194 dX5_number_70 rfl rfl (z_icmp_eq 89 dX5_number_73 (by decide) (fun _ => z_iconst (v := (-1)) dX5_number_89 (by decide) (z_goto 94 dX5_number_90 (by decide) (z_ireturn dX5_number_94 rfl (by decide) (by decide) ?_))) (fun c => absurd ((by rw [hr2.2.2.1.1, hb2, q1]; rfl)) c)))))
      exact h _ hr2 hb2 hD2
    · have hne : ¬ gI μ2 50 0 4 = gI μ2 50 0 6 := by
        rw [hr2.2.2.1.1, hb2]
        exact fun z => q1 (by have := (nI_eq (a := b0 + k) (b := b0) (by omega) (by omega)).mp z; omega)
      by_cases q2 : k ≤ 4
      · rw [if_neg (by omega)] at h
        refine z_aload0 dX5_number_65 (z_getI fl_X5_187 dX5_number_66 rfl rfl (z_aload0 dX5_number_69 (z_getI fl_X5_194 dX5_number_70 rfl rfl (z_icmp_eq 89 dX5_number_73 (by decide) (fun c => absurd c (hne)) (fun _ => z_aload0 dX5_number_76 (z_getI fl_X5_187 dX5_number_77 rfl rfl (z_aload0 dX5_number_80 (z_getI fl_X5_194 dX5_number_81 rfl rfl (z_isub dX5_number_84 (z_iconst (v := 4) dX5_number_85 (by decide) (z_icmp_le 93 dX5_number_86 (by decide) (fun _ => z_iload1 dX5_number_93 (z_ireturn dX5_number_94 rfl (by decide) (by decide) ?_)) (fun c => absurd ((by rw [ed]; exact nI_le (b := 4) q2 (by decide))) c))))))))))))
        rw [Nat.min_eq_left q2]
        exact h _ hr2 hb2 hD2
      · rw [if_pos (Or.inr (by omega))] at h
        refine z_aload0 dX5_number_65 (z_getI fl_X5_187 dX5_number_66 rfl rfl (z_aload0 dX5_number_69 (z_getI fl_X5_194 dX5_number_70 rfl rfl (z_icmp_eq 89 dX5_number_73 (by decide) (fun c => absurd c (hne)) (fun _ => z_aload0 dX5_number_76 (z_getI fl_X5_187 dX5_number_77 rfl rfl (z_aload0 dX5_number_80 (z_getI fl_X5_194 dX5_number_81 rfl rfl (z_isub dX5_number_84 (z_iconst (v := 4) dX5_number_85 (by decide) (z_icmp_le 93 dX5_number_86 (by decide) (fun c => absurd c ((by rw [ed]; exact nI_ge (a := 4) (b := k) (by omega) (by omega)))) (fun _ => z_iconst (v := (-1)) dX5_number_89 (by decide) (z_goto 94 dX5_number_90 (by decide) (z_ireturn dX5_number_94 rfl (by decide) (by decide) ?_))))))))))))))
        exact h _ hr2 hb2 hD2
  have lp : ∀ m k μ2, e - (b0 + k) = m → RD T e (b0 + k) μ2 → gI μ2 50 0 6 = nI b0 → Dif SR μ μ2 → dgE T e b0 = dgE T e (b0 + k) → Z RX5 cX5_number (2, some .int, [], false, rmm 3 0 0) (Γ, C, μ, ad, Q) (0) (0) (μ2) 6 [some (vr 50 0), some (vi (numV T b0 (min k 4)))] [] := by
    intro m
    induction m with
    | zero =>
      intro k μ2 hm hr2 hb2 hD2 hk
      refine z_aload0 dX5_number_6 (z_bipush (v := 48) dX5_number_7 (by decide) (z_bipush (v := 57) dX5_number_9 (by decide) (z_invV2 (md_X5_isAt _) cv_X5_190 rfl dX5_number_11 rfl (by decide) (Rm.ofB rfl) (M_isAt hr2 (z_if_eq 65 dX5_number_14 (by decide) (fun _ => ?_) (fun c => absurd ((by rw [decide_eq_false (fun q => by omega)]; rfl)) c))))))
      exact fin k μ2 hr2 hb2 hD2 (hk.trans (skE_f (fun q => by omega)))
    | succ m ih =>
      intro k μ2 hm hr2 hb2 hD2 hk
      have he4 := hr2.2.1.2
      by_cases q : 48 ≤ T (b0 + k) ∧ T (b0 + k) ≤ 57
      · have ed : gI μ2 50 0 4 - gI μ2 50 0 6 = nI k := by
          rw [hr2.2.2.1.1, hb2, Nat.add_comm, ← nI_add, Int32.add_sub_cancel]
        have step : ∀ v, v = numV T b0 (min (k + 1) 4) → Z RX5 cX5_number (2, some .int, [], false, rmm 3 0 0) (Γ, C, μ, ad, Q) (0) (0) (μ2) 51 [some (vr 50 0), some (vi (numV T b0 (min k 4)))] [vi v] := by
          intro v hv
          subst hv
          refine z_istore1 dX5_number_51 (z_aload0 dX5_number_52 (z_dupa dX5_number_53 (z_getI fl_X5_187 dX5_number_54 rfl rfl (z_iconst (v := 1) dX5_number_57 (by decide) (z_iadd dX5_number_58 (z_putI fl_X5_187 dX5_number_59 rfl rfl ⟨rfl, rfl⟩ (z_goto 6 dX5_number_62 (by decide) ?_)))))))
          have e1 : gI (sI μ2 50 0 4 (gI μ2 50 0 4 + 1)) 50 0 4 = nI (b0 + (k + 1)) := by rw [gI_sI, if_pos ⟨rfl, rfl, rfl⟩, hr2.2.2.1.1, nI_1]; rfl
          exact ih (k + 1) _ (by omega) (hr2.dif (Dif.sI (S := SR) ⟨rfl, rfl, Or.inl rfl⟩) e1 (by omega) nSR) (by rw [gI_sI, if_neg (by simp)]; exact hb2) (hD2.tr (Dif.sI ⟨rfl, rfl, Or.inl rfl⟩)) (hk.trans (skE_t (by omega) (by simp [dgt, q])))
        have hM2 := hr2.1
        by_cases q4 : k < 4
        · have ix : Ix (gI μ2 50 0 4) (b0 + k) 400 := ⟨hr2.2.2.1.1, by omega, by decide⟩
          refine z_aload0 dX5_number_6 (z_bipush (v := 48) dX5_number_7 (by decide) (z_bipush (v := 57) dX5_number_9 (by decide) (z_invV2 (md_X5_isAt _) cv_X5_190 rfl dX5_number_11 rfl (by decide) (Rm.ofB rfl) (M_isAt hr2 (z_if_eq 65 dX5_number_14 (by decide) (fun c => absurd c ((by rw [decide_eq_true ⟨by omega, q⟩]; exact n10))) (fun _ => z_aload0 dX5_number_17 (z_getI fl_X5_187 dX5_number_18 rfl rfl (z_aload0 dX5_number_21 (z_getI fl_X5_194 dX5_number_22 rfl rfl (z_isub dX5_number_25 (z_iconst (v := 4) dX5_number_26 (by decide) (z_icmp_ge 50 dX5_number_27 (by decide) (fun c => absurd c ((by rw [ed]; exact nI_ge (b := 4) q4 (by decide)))) (fun _ => z_bipush (v := 10) dX5_number_30 (by decide) (z_iload1 dX5_number_32 (z_imul dX5_number_33 (z_aload0 dX5_number_34 (z_getP (v := some (53, 0)) fl_X5_9 dX5_number_35 rfl rfl (hM2 2 rfl) (z_aload0 dX5_number_38 (z_getI fl_X5_187 dX5_number_39 rfl rfl (z_baldv dX5_number_42 rfl ix (hr2.2.2.2 (b0 + k)) (z_iadd dX5_number_43 (z_bipush (v := 48) dX5_number_44 (by decide) (z_isub dX5_number_46 (z_goto 51 dX5_number_47 (by decide) ?_))))))))))))))))))))))))
          exact step _ (by rw [Nat.min_eq_left (by omega), Nat.min_eq_left (by omega), numV])
        · refine z_aload0 dX5_number_6 (z_bipush (v := 48) dX5_number_7 (by decide) (z_bipush (v := 57) dX5_number_9 (by decide) (z_invV2 (md_X5_isAt _) cv_X5_190 rfl dX5_number_11 rfl (by decide) (Rm.ofB rfl) (M_isAt hr2 (z_if_eq 65 dX5_number_14 (by decide) (fun c => absurd c ((by rw [decide_eq_true ⟨by omega, q⟩]; exact n10))) (fun _ => z_aload0 dX5_number_17 (z_getI fl_X5_187 dX5_number_18 rfl rfl (z_aload0 dX5_number_21 (z_getI fl_X5_194 dX5_number_22 rfl rfl (z_isub dX5_number_25 (z_iconst (v := 4) dX5_number_26 (by decide) (z_icmp_ge 50 dX5_number_27 (by decide) (fun _ => z_iload1 dX5_number_50 ?_) (fun c => absurd ((by rw [ed]; exact nI_le (a := 4) (by omega) (by omega))) c)))))))))))))
          exact step _ (by rw [Nat.min_eq_right (by omega), Nat.min_eq_right (by omega)])
      · refine z_aload0 dX5_number_6 (z_bipush (v := 48) dX5_number_7 (by decide) (z_bipush (v := 57) dX5_number_9 (by decide) (z_invV2 (md_X5_isAt _) cv_X5_190 rfl dX5_number_11 rfl (by decide) (Rm.ofB rfl) (M_isAt hr2 (z_if_eq 65 dX5_number_14 (by decide) (fun _ => ?_) (fun c => absurd ((by rw [decide_eq_false (fun z => q z.2)]; rfl)) c))))))
        exact fin k μ2 hr2 hb2 hD2 (hk.trans (skE_f (fun z => q (by simpa [dgt] using z.2))))
  refine z_iconst (v := 0) dX5_number_4 (by decide) (z_istore1 dX5_number_5 ?_)
  exact lp _ 0 μ1 rfl hr1 hb1 hD1 rfl
/-- a step is put behind the draft's steps -/
def SA (s : Nat) : Nat → Nat → Nat → Prop := fun p i k => i = 0 ∧ (((p = 67 ∨ p = 68 ∨ p = 69) ∧ 4800 + s ≤ k) ∨ (p = 50 ∧ k = 20))
theorem M_adds {x y z : Int32} {s : Nat} (hM : MOK μ) (hs : gI μ 50 0 20 = nI s) (hs2 : s < 400) (h : ∀ μ', gI μ' 50 0 20 = nI (s + 1) → gI μ' 67 0 (4800 + s) = x → gI μ' 68 0 (4800 + s) = y → gI μ' 69 0 (4800 + s) = z → Dif (SA s) μ μ' → Q rV μ') : Ct RX5 cX5_adds (5, none, [], false, rmm 1 0 0) [vr 50 0, vi x, vi y, vi z] μ Q := by
  refine Ct.of (ls := [some (vr 50 0), some (vi x), some (vi y), some (vi z), none]) rfl fun Γ C ad => ?_
  have e1 : (4800 : Int32) + gI μ 50 0 20 = nI (4800 + s) := by rw [hs, show (4800 : Int32) = nI 4800 from rfl, nI_add]
  refine z_sipush (v := 4800) dX5_adds_0 (by decide) (z_aload0 dX5_adds_3 (z_getI fl_X5_217 dX5_adds_4 rfl rfl (z_iadd dX5_adds_7 (z_istore4 dX5_adds_8 (z_aload0 dX5_adds_10 (z_getP (v := some (67, 0)) fl_X5_39 dX5_adds_11 rfl rfl (hM 16 rfl) (z_iload4 dX5_adds_14 (z_iload1 dX5_adds_16 (z_iast dX5_adds_17 rfl ⟨e1, (show 4800 + s < 5200 by omega), Nat.le_of_ble_eq_true rfl⟩ (z_aload0 dX5_adds_18 (z_getP (v := some (68, 0)) fl_X5_42 dX5_adds_19 rfl rfl (hM 17 rfl) (z_iload4 dX5_adds_22 (z_iload2 dX5_adds_24 (z_iast dX5_adds_25 rfl ⟨e1, (show 4800 + s < 5200 by omega), Nat.le_of_ble_eq_true rfl⟩ (z_aload0 dX5_adds_26 (z_getP (v := some (69, 0)) fl_X5_45 dX5_adds_27 rfl rfl (hM 18 rfl) (z_iload4 dX5_adds_30 (z_iload3 dX5_adds_32 (z_iast dX5_adds_33 rfl ⟨e1, (show 4800 + s < 5200 by omega), Nat.le_of_ble_eq_true rfl⟩ (z_aload0 dX5_adds_34 (z_dupa dX5_adds_35 (z_getI fl_X5_217 dX5_adds_36 rfl rfl (z_iconst (v := 1) dX5_adds_39 (by decide) (z_iadd dX5_adds_40 (z_putI fl_X5_217 dX5_adds_41 rfl rfl ⟨rfl, rfl⟩ (z_return dX5_adds_44 rfl (by decide) (by decide) ?_))))))))))))))))))))))))))
  refine h _ ?_ ?_ ?_ ?_ ?_
  · simp [gI_sI, hs, nI_1]
  · simp [gI_sI]
  · simp [gI_sI]
  · simp [gI_sI]
  · exact (((Dif.sI ⟨rfl, Or.inl ⟨Or.inl rfl, Nat.le_refl _⟩⟩).tr (Dif.sI ⟨rfl, Or.inl ⟨Or.inr (Or.inl rfl), Nat.le_refl _⟩⟩)).tr (Dif.sI ⟨rfl, Or.inl ⟨Or.inr (Or.inr rfl), Nat.le_refl _⟩⟩)).tr (Dif.sI ⟨rfl, Or.inr ⟨rfl, rfl⟩⟩)
abbrev rO (r : Option (Nat × Nat)) : Res := .inl (some (vo r))
theorem M_fact {k : Nat} (hk : k < 9) (h : Q (rO (some (0, 27 + k))) μ) : Ct RX5 cX5_fact (1, some (.object "java/lang/String"), [], false, rmm 1 0 0) [vi (nI k)] μ Q := by
  refine Ct.of (ls := [some (vi (nI k))]) rfl fun Γ C ad => ?_
  match k, hk with
  | 0, _ =>
    refine z_iload0 dX5_fact_0 (z_tabIn 48 dX5_fact_1 (by decide) (by decide) rfl (by decide) (z_ldcS 27 rfl dX5_fact_48 (z_areturn dX5_fact_50 rfl (Or.inl ⟨_, rfl⟩) (by decide) (by decide) ?_)))
    exact h
  | 1, _ =>
    refine z_iload0 dX5_fact_0 (z_tabIn 51 dX5_fact_1 (by decide) (by decide) rfl (by decide) (z_ldcS 28 rfl dX5_fact_51 (z_areturn dX5_fact_53 rfl (Or.inl ⟨_, rfl⟩) (by decide) (by decide) ?_)))
    exact h
  | 2, _ =>
    refine z_iload0 dX5_fact_0 (z_tabIn 54 dX5_fact_1 (by decide) (by decide) rfl (by decide) (z_ldcS 29 rfl dX5_fact_54 (z_areturn dX5_fact_56 rfl (Or.inl ⟨_, rfl⟩) (by decide) (by decide) ?_)))
    exact h
  | 3, _ =>
    refine z_iload0 dX5_fact_0 (z_tabIn 57 dX5_fact_1 (by decide) (by decide) rfl (by decide) (z_ldcS 30 rfl dX5_fact_57 (z_areturn dX5_fact_59 rfl (Or.inl ⟨_, rfl⟩) (by decide) (by decide) ?_)))
    exact h
  | 4, _ =>
    refine z_iload0 dX5_fact_0 (z_tabIn 60 dX5_fact_1 (by decide) (by decide) rfl (by decide) (z_ldcS 31 rfl dX5_fact_60 (z_areturn dX5_fact_62 rfl (Or.inl ⟨_, rfl⟩) (by decide) (by decide) ?_)))
    exact h
  | 5, _ =>
    refine z_iload0 dX5_fact_0 (z_tabIn 63 dX5_fact_1 (by decide) (by decide) rfl (by decide) (z_ldcS 32 rfl dX5_fact_63 (z_areturn dX5_fact_65 rfl (Or.inl ⟨_, rfl⟩) (by decide) (by decide) ?_)))
    exact h
  | 6, _ =>
    refine z_iload0 dX5_fact_0 (z_tabIn 66 dX5_fact_1 (by decide) (by decide) rfl (by decide) (z_ldcS 33 rfl dX5_fact_66 (z_areturn dX5_fact_68 rfl (Or.inl ⟨_, rfl⟩) (by decide) (by decide) ?_)))
    exact h
  | 7, _ =>
    refine z_iload0 dX5_fact_0 (z_tabIn 69 dX5_fact_1 (by decide) (by decide) rfl (by decide) (z_ldcS 34 rfl dX5_fact_69 (z_areturn dX5_fact_71 rfl (Or.inl ⟨_, rfl⟩) (by decide) (by decide) ?_)))
    exact h
  | 8, _ =>
    refine z_iload0 dX5_fact_0 (z_tabOut 72 dX5_fact_1 (by decide) (by decide) (z_ldcS 35 rfl dX5_fact_72 (z_areturn dX5_fact_74 rfl (Or.inl ⟨_, rfl⟩) (by decide) (by decide) ?_)))
    exact h
  | k + 9, hk => omega
theorem M_item {k : Nat} (hk : k < 8) (h : Q (rO (some (0, 36 + k))) μ) : Ct RX5 cX5_item (1, some (.object "java/lang/String"), [], false, rmm 1 0 0) [vi (nI k)] μ Q := by
  refine Ct.of (ls := [some (vi (nI k))]) rfl fun Γ C ad => ?_
  match k, hk with
  | 0, _ =>
    refine z_iload0 dX5_item_0 (z_tabIn 44 dX5_item_1 (by decide) (by decide) rfl (by decide) (z_ldcS 36 rfl dX5_item_44 (z_areturn dX5_item_46 rfl (Or.inl ⟨_, rfl⟩) (by decide) (by decide) ?_)))
    exact h
  | 1, _ =>
    refine z_iload0 dX5_item_0 (z_tabIn 47 dX5_item_1 (by decide) (by decide) rfl (by decide) (z_ldcS 37 rfl dX5_item_47 (z_areturn dX5_item_49 rfl (Or.inl ⟨_, rfl⟩) (by decide) (by decide) ?_)))
    exact h
  | 2, _ =>
    refine z_iload0 dX5_item_0 (z_tabIn 50 dX5_item_1 (by decide) (by decide) rfl (by decide) (z_ldcS 38 rfl dX5_item_50 (z_areturn dX5_item_52 rfl (Or.inl ⟨_, rfl⟩) (by decide) (by decide) ?_)))
    exact h
  | 3, _ =>
    refine z_iload0 dX5_item_0 (z_tabIn 53 dX5_item_1 (by decide) (by decide) rfl (by decide) (z_ldcS 39 rfl dX5_item_53 (z_areturn dX5_item_55 rfl (Or.inl ⟨_, rfl⟩) (by decide) (by decide) ?_)))
    exact h
  | 4, _ =>
    refine z_iload0 dX5_item_0 (z_tabIn 56 dX5_item_1 (by decide) (by decide) rfl (by decide) (z_ldcS 40 rfl dX5_item_56 (z_areturn dX5_item_58 rfl (Or.inl ⟨_, rfl⟩) (by decide) (by decide) ?_)))
    exact h
  | 5, _ =>
    refine z_iload0 dX5_item_0 (z_tabIn 59 dX5_item_1 (by decide) (by decide) rfl (by decide) (z_ldcS 41 rfl dX5_item_59 (z_areturn dX5_item_61 rfl (Or.inl ⟨_, rfl⟩) (by decide) (by decide) ?_)))
    exact h
  | 6, _ =>
    refine z_iload0 dX5_item_0 (z_tabIn 62 dX5_item_1 (by decide) (by decide) rfl (by decide) (z_ldcS 42 rfl dX5_item_62 (z_areturn dX5_item_64 rfl (Or.inl ⟨_, rfl⟩) (by decide) (by decide) ?_)))
    exact h
  | 7, _ =>
    refine z_iload0 dX5_item_0 (z_tabOut 65 dX5_item_1 (by decide) (by decide) (z_ldcS 43 rfl dX5_item_65 (z_areturn dX5_item_67 rfl (Or.inl ⟨_, rfl⟩) (by decide) (by decide) ?_)))
    exact h
  | k + 8, hk => omega
end M14
