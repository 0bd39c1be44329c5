/-! the Office: people, loans -/
theorem xl_p {c i : Nat} (h7 : c ≠ 7) (h34 : c ≠ 34) : (xl 0 c i).1 = xpL.getD c 0 := by
  unfold xl
  rw [if_neg h7, if_neg h34]
  split
  · rename_i q; rw [q]; rfl
  · split
    · rename_i q; rw [q]; rfl
    · split
      · rename_i q; rw [q]; rfl
      · split
        · rename_i q; rw [q]; rfl
        · split
          · rename_i q
            have key : ∀ c, c < 24 → (c < 7 ∨ c = 23) → xpL.getD c 0 = 34 := by decide
            exact (key c (by omega) q).symm
          · rfl
theorem xl_i {c i : Nat} (h : c ≠ 7 ∧ c ≠ 34 ∧ c ≠ 26 ∧ c ≠ 27 ∧ c ≠ 33 ∧ c ≠ 35) : (xl 0 c i).2.1 = i := by
  unfold xl
  rw [if_neg h.1, if_neg h.2.1, if_neg h.2.2.1, if_neg h.2.2.2.1, if_neg h.2.2.2.2.1, if_neg h.2.2.2.2.2]
  split <;> rfl
theorem xl_4 {c i : Nat} (h : c = 7 ∨ c = 34) : (xl 0 c i).1 ≤ 4 := by
  rcases h with rfl | rfl
  · show (if i = 5 then (1, 0, 26) else (4, 0, xS.getD i 0)).1 ≤ 4
    split
    · decide
    · exact Nat.le_refl 4
  · show (if i = 15 then (2, 0, 7) else (1, 0, xT.getD i 0)).1 ≤ 4
    split
    · decide
    · exact (by omega : 1 ≤ 4)
theorem sX_lt {c i : Nat} (hs : sX c i) : c < 40 := by
  unfold sX at hs
  split at hs
  · omega
  · split at hs
    · omega
    · exact hs.1
def colsOf (P : Nat) (cols : List Nat) : Bool := (List.range 40).all fun c => (c == 7 || c == 34) || ((xpL.getD c 0 == P) == decide (c ∈ cols))
theorem zap_of {σ : Sg} {P j c i : Nat} {cols : List Nat} (hP : 4 < P) (hc : colsOf P cols = true) (hn : ∀ c ∈ cols, c ≠ 7 ∧ c ≠ 34 ∧ c ≠ 26 ∧ c ≠ 27 ∧ c ≠ 33 ∧ c ≠ 35) (hs : sX c i) : zap 0 P j σ c i = if c ∈ cols ∧ i = j then 0 else σ c i := by
  unfold zap
  have hlt := sX_lt hs
  by_cases q : c = 7 ∨ c = 34
  · have := xl_4 (i := i) q
    rw [if_neg (by omega), if_neg]
    rintro ⟨z, -⟩
    have := hn c z
    omega
  · have e := xl_p (i := i) (fun z => q (Or.inl z)) (fun z => q (Or.inr z))
    have h1 := List.all_eq_true.mp hc c (List.mem_range.mpr hlt)
    have h2 : (xpL.getD c 0 == P) = decide (c ∈ cols) := by
      have : (c == 7 || c == 34) = false := by simp; omega
      rw [this, Bool.false_or] at h1
      exact eq_of_beq h1
    rw [e]
    by_cases z : c ∈ cols
    · rw [decide_eq_true z] at h2
      have e2 := eq_of_beq h2
      rw [xl_i (hn c z)]
      by_cases w : i = j
      · rw [if_pos ⟨e2, w⟩, if_pos ⟨z, w⟩]
      · rw [if_neg (fun t => w t.2), if_neg (fun t => w t.2)]
    · rw [decide_eq_false z] at h2
      have e2 : ¬ xpL.getD c 0 = P := fun t => by rw [t, beq_self_eq_true] at h2; cases h2
      rw [if_neg (fun t => e2 t.1), if_neg (fun t => z t.1)]
theorem zap_24 {σ : Sg} {j c i : Nat} (hs : sX c i) : zap 0 24 j σ c i = if c = 26 ∧ i / 5 = j then 0 else σ c i := by
  unfold zap
  have hlt := sX_lt hs
  by_cases q : c = 7 ∨ c = 34
  · have := xl_4 (i := i) q
    rw [if_neg (by omega), if_neg (by omega)]
  · have e := xl_p (i := i) (fun z => q (Or.inl z)) (fun z => q (Or.inr z))
    by_cases z : c = 26
    · subst z
      by_cases w : i / 5 = j
      · rw [if_pos ⟨rfl, w⟩, if_pos ⟨rfl, w⟩]
      · rw [if_neg (fun t => w t.2), if_neg (fun t => w t.2)]
    · have key : ∀ c, c < 40 → c ≠ 26 → xpL.getD c 0 ≠ 24 := by decide
      rw [if_neg (fun t => key c hlt z (e ▸ t.1)), if_neg (fun t => z t.1)]
section O4
variable {μ μ' : Mem} {σ : Sg} {Λ : Lws} {Q : Res → Mem → Prop}
theorem bI_put (b : Bool) : narrow .boolean (.int (bI b)) = .int (bI b) ∧ fits .boolean (.int (bI b)) = true := by cases b <;> exact ⟨rfl, rfl⟩
theorem O_far {a b : Int32} (hI : TX σ Λ μ) (hC : CT σ) (h : ∀ r μ', TX (pFar σ a b).1 Λ μ' → Fx μ μ' → XR [40] (pFar σ a b).2.1 (rI (pFar σ a b).2.2) r → Q r μ') : Ct RX1 cX1_far (3, some .int, [], false, rmm 8 2 12) [vr 1 0, vi a, vi b] μ Q := by
  refine Ct.of (ls := [some (vr 1 0), some (vi a), some (vi b)]) rfl fun Γ C ad => ?_
  have hX := hI.1
  have hR := hI.2.1
  have np := hC.np
  unfold pFar at h
  by_cases h1 : isP σ a
  · obtain ⟨j, hj, e⟩ := hC.isP h1
    by_cases h2 : isP σ b
    · obtain ⟨k, hk, ek⟩ := hC.isP h2
      rw [if_neg (nn ⟨h1, h2⟩), e, ek, tn_nI (by omega), tn_nI (by omega)] at h
      refine z_aload0 dX1_far_0 (z_iload1 dX1_far_1 (z_invV1 (md_X1_personAt _) cv_X1_201 rfl dX1_far_2 rfl (Nat.le_of_ble_eq_true rfl) (Rm.ofB rfl) (X_personT hX hR h1 e hj np (z_aload0 dX1_far_5 (z_iload2 dX1_far_6 (z_invV1 (md_X1_personAt _) cv_X1_201 rfl dX1_far_7 rfl (Nat.le_of_ble_eq_true rfl) (Rm.ofB rfl) (X_personT hX hR h2 ek hk np (z_invV1 (md_X12_far _) cv_X1_214 rfl dX1_far_10 rfl (Nat.le_of_ble_eq_true rfl) (Rm.ofB rfl) (X_far hX hR hj hk (z_ireturn dX1_far_13 rfl (Nat.le_of_ble_eq_true rfl) (Nat.le_of_ble_eq_true rfl) ?_))))))))))
      exact h _ _ hI Fx.rf XR.ok
    · rw [if_pos (fun q => h2 q.2)] at h
      refine z_aload0 dX1_far_0 (z_iload1 dX1_far_1 (z_invV1 (md_X1_personAt _) cv_X1_201 rfl dX1_far_2 rfl (Nat.le_of_ble_eq_true rfl) (Rm.ofB rfl) (X_personT hX hR h1 e hj np (z_aload0 dX1_far_5 (z_iload2 dX1_far_6 (z_invV1 (md_X1_personAt _) cv_X1_201 rfl dX1_far_7 rfl (Nat.le_of_ble_eq_true rfl) (Rm.ofB rfl) (X_personF hR h2 ?_)))))))
      exact fun μ' i q => ⟨rfl, h _ _ (hI.exc q) (Fx.exc q) XR.e1⟩
  · rw [if_pos (fun q => h1 q.1)] at h
    refine z_aload0 dX1_far_0 (z_iload1 dX1_far_1 (z_invV1 (md_X1_personAt _) cv_X1_201 rfl dX1_far_2 rfl (Nat.le_of_ble_eq_true rfl) (Rm.ofB rfl) (X_personF hR h1 ?_)))
    exact fun μ' i q => ⟨rfl, h _ _ (hI.exc q) (Fx.exc q) XR.e1⟩
theorem O_sign {p x : Int32} (hI : TX σ Λ μ) (hC : CT σ) (h : ∀ r μ', TX (pSign σ p x).1 Λ μ' → Fx μ μ' → XR [40] (pSign σ p x).2.1 (rI (pSign σ p x).2.2) r → Q r μ') : Ct RX1 cX1_sign (4, some .int, [], false, rmm 8 1 6) [vr 1 0, vi p, vi x] μ Q := by
  refine Ct.of (ls := [some (vr 1 0), some (vi p), some (vi x), none]) rfl fun Γ C ad => ?_
  have hX := hI.1
  have hR := hI.2.1
  have np := hC.np
  unfold pSign at h
  by_cases h1 : isP σ p
  · obtain ⟨j, hj, e⟩ := hC.isP h1
    rw [if_neg (nn h1), e, tn_nI (by omega)] at h
    obtain ⟨n1, n2⟩ := hI.2.2.2 j hj
    by_cases h2 : σ 36 j = 0
    · rw [if_neg (fun q => q.1 h2)] at h
      refine z_aload0 dX1_sign_0 (z_iload1 dX1_sign_1 (z_invV1 (md_X1_personAt _) cv_X1_201 rfl dX1_sign_2 rfl (Nat.le_of_ble_eq_true rfl) (Rm.ofB rfl) (X_personT hX hR h1 e hj np (z_astore3 dX1_sign_5 (z_aload3 dX1_sign_6 (z_getP fl_X1_212 dX1_sign_7 rfl rfl (n1 h2) (z_ifnull 23 dX1_sign_10 (by decide) (fun _ => z_iconst (v := (-1)) dX1_sign_23 (by decide) (z_goto 33 dX1_sign_24 (by decide) (z_ireturn dX1_sign_33 rfl (Nat.le_of_ble_eq_true rfl) (Nat.le_of_ble_eq_true rfl) ?_))) (fun _ c => by cases c))))))))
      exact h _ _ hI Fx.rf XR.ok
    · obtain ⟨k, g1, g2, g3⟩ := n2 h2
      by_cases h3 : 0 ≤ x ∧ x ≤ 23
      · rw [if_pos ⟨h2, h3⟩] at h
        obtain ⟨i, hi, ei⟩ := in_nI (n := 23) h3 rfl
        rw [ei, tn_nI (by omega)] at h
        refine z_aload0 dX1_sign_0 (z_iload1 dX1_sign_1 (z_invV1 (md_X1_personAt _) cv_X1_201 rfl dX1_sign_2 rfl (Nat.le_of_ble_eq_true rfl) (Rm.ofB rfl) (X_personT hX hR h1 e hj np (z_astore3 dX1_sign_5 (z_aload3 dX1_sign_6 (z_getP fl_X1_212 dX1_sign_7 rfl rfl g2 (z_ifnull 23 dX1_sign_10 (by decide) (fun c => by cases c) (fun _ _ => z_iload2 dX1_sign_13 (z_iconst (v := 0) dX1_sign_14 (by decide) (z_bipush (v := 23) dX1_sign_15 (by decide) (z_invS3 (md_X1_isIn _) cs_X1_114 dX1_sign_17 rfl (Nat.le_of_ble_eq_true rfl) (Rm.ofB rfl) (X_inT h3 (z_if_ne 27 dX1_sign_20 (by decide) (fun _ => z_aload3 dX1_sign_27 (z_getP fl_X1_212 dX1_sign_28 rfl rfl g2 (z_iload2 dX1_sign_31 (z_baldv dX1_sign_32 rfl ⟨ei, (show i < 24 by omega), Nat.le_of_ble_eq_true rfl⟩ (g3 i (by omega)) (z_ireturn dX1_sign_33 rfl (Nat.le_of_ble_eq_true rfl) (Nat.le_of_ble_eq_true rfl) ?_))))) (fun c => absurd c (n10)))))))))))))))
        exact h _ _ hI Fx.rf XR.ok
      · rw [if_neg (fun q => h3 q.2)] at h
        refine z_aload0 dX1_sign_0 (z_iload1 dX1_sign_1 (z_invV1 (md_X1_personAt _) cv_X1_201 rfl dX1_sign_2 rfl (Nat.le_of_ble_eq_true rfl) (Rm.ofB rfl) (X_personT hX hR h1 e hj np (z_astore3 dX1_sign_5 (z_aload3 dX1_sign_6 (z_getP fl_X1_212 dX1_sign_7 rfl rfl g2 (z_ifnull 23 dX1_sign_10 (by decide) (fun c => by cases c) (fun _ _ => z_iload2 dX1_sign_13 (z_iconst (v := 0) dX1_sign_14 (by decide) (z_bipush (v := 23) dX1_sign_15 (by decide) (z_invS3 (md_X1_isIn _) cs_X1_114 dX1_sign_17 rfl (Nat.le_of_ble_eq_true rfl) (Rm.ofB rfl) (X_inF h3 (z_if_ne 27 dX1_sign_20 (by decide) (fun c => absurd (rfl) c) (fun _ => z_iconst (v := (-1)) dX1_sign_23 (by decide) (z_goto 33 dX1_sign_24 (by decide) (z_ireturn dX1_sign_33 rfl (Nat.le_of_ble_eq_true rfl) (Nat.le_of_ble_eq_true rfl) ?_))))))))))))))))
        exact h _ _ hI Fx.rf XR.ok
  · rw [if_pos h1] at h
    refine z_aload0 dX1_sign_0 (z_iload1 dX1_sign_1 (z_invV1 (md_X1_personAt _) cv_X1_201 rfl dX1_sign_2 rfl (Nat.le_of_ble_eq_true rfl) (Rm.ofB rfl) (X_personF hR h1 ?_)))
    exact fun μ' i q => ⟨rfl, h _ _ (hI.exc q) (Fx.exc q) XR.e1⟩
theorem O_figure {p : Int32} (hI : TX σ Λ μ) (hC : CT σ) (h : ∀ r μ', TX (pFigure σ p).1 Λ μ' → Fx μ μ' → XR [40] (pFigure σ p).2.1 (rI (pFigure σ p).2.2) r → Q r μ') : Ct RX1 cX1_figure (6, some .int, [], false, rmm 8 1 6) [vr 1 0, vi p] μ Q := by
  refine Ct.of (ls := [some (vr 1 0), some (vi p), none, none, none, none]) rfl fun Γ C ad => ?_
  have hX := hI.1
  have hR := hI.2.1
  have np := hC.np
  unfold pFigure at h
  by_cases h1 : isP σ p
  · obtain ⟨j, hj, e⟩ := hC.isP h1
    rw [if_neg (nn h1), e, tn_nI (by omega)] at h
    obtain ⟨n1, n2⟩ := hI.2.2.2 j hj
    by_cases h2 : σ 36 j = 0
    · rw [if_pos h2] at h
      refine z_aload0 dX1_figure_0 (z_iload1 dX1_figure_1 (z_invV1 (md_X1_personAt _) cv_X1_201 rfl dX1_figure_2 rfl (Nat.le_of_ble_eq_true rfl) (Rm.ofB rfl) (X_personT hX hR h1 e hj np (z_astore2 dX1_figure_5 (z_aload2 dX1_figure_6 (z_getP fl_X1_212 dX1_figure_7 rfl rfl (n1 h2) (z_ifnonnull 15 dX1_figure_10 (by decide) (fun _ c => by cases c) (fun _ => z_iconst (v := (-1)) dX1_figure_13 (by decide) (z_ireturn dX1_figure_14 rfl (Nat.le_of_ble_eq_true rfl) (Nat.le_of_ble_eq_true rfl) ?_)))))))))
      exact h _ _ hI Fx.rf XR.ok
    · obtain ⟨i, g1, g2, g3⟩ := n2 h2
      rw [if_neg h2] at h
      refine z_aload0 dX1_figure_0 (z_iload1 dX1_figure_1 (z_invV1 (md_X1_personAt _) cv_X1_201 rfl dX1_figure_2 rfl (Nat.le_of_ble_eq_true rfl) (Rm.ofB rfl) (X_personT hX hR h1 e hj np (z_astore2 dX1_figure_5 (z_aload2 dX1_figure_6 (z_getP fl_X1_212 dX1_figure_7 rfl rfl g2 (z_ifnonnull 15 dX1_figure_10 (by decide) (fun _ _ => z_iconst (v := 0) dX1_figure_15 (by decide) (z_istore3 dX1_figure_16 (z_iconst (v := 0) dX1_figure_17 (by decide) (z_istore4 dX1_figure_18 ?_)))) (fun c => by cases c))))))))
      have lp : ∀ k, k ≤ 24 → ∀ o : Option AV, Z RX1 cX1_figure (6, some .int, [], false, rmm 8 1 6) (Γ, C, μ, ad, Q) 1 6 μ 20 [some (vr 1 0), some (vi p), some (vr 23 j), some (vi (figS σ j k)), some (vi (nI k)), o] [] := by
        refine loopN (P := fun k => ∀ o : Option AV, Z RX1 cX1_figure (6, some .int, [], false, rmm 8 1 6) (Γ, C, μ, ad, Q) 1 6 μ 20 [some (vr 1 0), some (vi p), some (vr 23 j), some (vi (figS σ j k)), some (vi (nI k)), o] []) 24 ?_ ?_
        · intro o
          refine z_iload4 dX1_figure_20 (z_bipush (v := 24) dX1_figure_22 (by decide) (z_icmp_ge 95 dX1_figure_24 (by decide) (fun _ => z_iload3 dX1_figure_95 (z_bipush (v := 10) dX1_figure_96 (by decide) (z_irem dX1_figure_98 (by decide) (z_ireturn dX1_figure_99 rfl (Nat.le_of_ble_eq_true rfl) (Nat.le_of_ble_eq_true rfl) ?_)))) (fun c => absurd (lpt (n := 24) rfl) c)))
          exact h _ _ hI Fx.rf XR.ok
        · intro k hk ih o
          rw [figS, figW, figM] at ih
          have j86 : ∀ w m : Int32, w = (if σ 37 (24 * j + k) = 60 then 0 else σ 37 (24 * j + k) - 65 + 10) → m = (if k % 3 = 0 then 7 else if k % 3 = 1 then 3 else 1) → Z RX1 cX1_figure (6, some .int, [], false, rmm 8 1 6) (Γ, C, μ, ad, Q) 1 6 μ 86 [some (vr 1 0), some (vi p), some (vr 23 j), some (vi (figS σ j k)), some (vi (nI k)), some (vi w)] [vi m, vi w, vi (figS σ j k)] := by
            intro w m ew em
            rw [← ew, ← em] at ih
            refine z_imul dX1_figure_86 (z_iadd dX1_figure_87 (z_istore3 dX1_figure_88 (z_iinc4 dX1_figure_89 (inc1 k) (z_goto 20 dX1_figure_92 (by decide) ?_))))
            exact ih _
          have j56 : ∀ w : Int32, w = (if σ 37 (24 * j + k) = 60 then 0 else σ 37 (24 * j + k) - 65 + 10) → Z RX1 cX1_figure (6, some .int, [], false, rmm 8 1 6) (Γ, C, μ, ad, Q) 1 6 μ 56 [some (vr 1 0), some (vi p), some (vr 23 j), some (vi (figS σ j k)), some (vi (nI k)), o] [vi w] := by
            intro w ew
            refine z_istore5 dX1_figure_56 (z_iload3 dX1_figure_58 (z_iload5 dX1_figure_59 (z_iload4 dX1_figure_61 (z_iconst (v := 3) dX1_figure_63 (by decide) (z_irem dX1_figure_64 (by decide) (z_if_ne 73 dX1_figure_65 (by decide) (fun c_65 => ?_) (fun c_65 => ?_)))))))
            · refine z_iload4 dX1_figure_73 (z_iconst (v := 3) dX1_figure_75 (by decide) (z_irem dX1_figure_76 (by decide) (z_iconst (v := 1) dX1_figure_77 (by decide) (z_icmp_ne 85 dX1_figure_78 (by decide) (fun c_78 => ?_) (fun c_78 => ?_)))))
              · refine z_iconst (v := 1) dX1_figure_85 (by decide) ?_
                exact j86 w 1 ew (by rw [if_neg (fun q => c_65 ((k3_0 hk).mpr q)), if_neg (fun q => c_78 ((k3_1 hk).mpr q))])
              · refine z_iconst (v := 3) dX1_figure_81 (by decide) (z_goto 86 dX1_figure_82 (by decide) ?_)
                exact j86 w 3 ew (by rw [if_neg (fun q => c_65 ((k3_0 hk).mpr q)), if_pos ((k3_1 hk).mp c_78)])
            · refine z_bipush (v := 7) dX1_figure_68 (by decide) (z_goto 86 dX1_figure_70 (by decide) ?_)
              exact j86 w 7 ew (by rw [if_pos ((k3_0 hk).mp c_65)])
          refine z_iload4 dX1_figure_20 (z_bipush (v := 24) dX1_figure_22 (by decide) (z_icmp_ge 95 dX1_figure_24 (by decide) (fun c => absurd c (lpf (n := 24) rfl hk (by decide))) (fun _ => z_aload2 dX1_figure_27 (z_getP fl_X1_212 dX1_figure_28 rfl rfl g2 (z_iload4 dX1_figure_31 (z_baldv dX1_figure_33 rfl ⟨rfl, (show k < 24 from hk), Nat.le_of_ble_eq_true rfl⟩ (g3 k hk) (z_bipush (v := 60) dX1_figure_34 (by decide) (z_icmp_ne 43 dX1_figure_36 (by decide) (fun c_36 => ?_) (fun c_36 => ?_)))))))))
          · refine z_aload2 dX1_figure_43 (z_getP fl_X1_212 dX1_figure_44 rfl rfl g2 (z_iload4 dX1_figure_47 (z_baldv dX1_figure_49 rfl ⟨rfl, (show k < 24 from hk), Nat.le_of_ble_eq_true rfl⟩ (g3 k hk) (z_bipush (v := 65) dX1_figure_50 (by decide) (z_isub dX1_figure_52 (z_bipush (v := 10) dX1_figure_53 (by decide) (z_iadd dX1_figure_55 ?_)))))))
            exact j56 _ (by rw [if_neg c_36])
          · refine z_iconst (v := 0) dX1_figure_39 (by decide) (z_goto 56 dX1_figure_40 (by decide) ?_)
            exact j56 _ (by rw [if_pos c_36])
      exact lp 0 (Nat.zero_le _) none
  · rw [if_pos h1] at h
    refine z_aload0 dX1_figure_0 (z_iload1 dX1_figure_1 (z_invV1 (md_X1_personAt _) cv_X1_201 rfl dX1_figure_2 rfl (Nat.le_of_ble_eq_true rfl) (Rm.ofB rfl) (X_personF hR h1 ?_)))
    exact fun μ' i q => ⟨rfl, h _ _ (hI.exc q) (Fx.exc q) XR.e1⟩
theorem X_lnInit {j : Nat} {a b c d e : Int32} (h : Q rV (sI (sI (sI (sI (sI μ 36 j 0 a) 36 j 1 b) 36 j 2 c) 36 j 3 d) 36 j 4 e)) : Ct RX16 cX16_init (6, none, [], true, rmm 1 0 0) [vr 36 j, vi a, vi b, vi c, vi d, vi e] μ Q := by
  refine Ct.of (ls := [some (vr 36 j), some (vi a), some (vi b), some (vi c), some (vi d), some (vi e)]) rfl fun Γ C ad => ?_
  refine z_aload0 dX16_init_0 (z_objInit co_X16_1 dX16_init_1 (by decide) (by decide) (z_aload0 dX16_init_4 (z_iload1 dX16_init_5 (z_putFI ff_X16_7 rfl dX16_init_6 rfl rfl ⟨rfl, rfl⟩ (z_aload0 dX16_init_9 (z_iload2 dX16_init_10 (z_putFI ff_X16_13 rfl dX16_init_11 rfl rfl ⟨rfl, rfl⟩ (z_aload0 dX16_init_14 (z_iload3 dX16_init_15 (z_putFI ff_X16_16 rfl dX16_init_16 rfl rfl ⟨rfl, rfl⟩ (z_aload0 dX16_init_19 (z_iload4 dX16_init_20 (z_putFI ff_X16_19 rfl dX16_init_22 rfl rfl ⟨rfl, rfl⟩ (z_aload0 dX16_init_25 (z_iload5 dX16_init_26 (z_putFI ff_X16_22 rfl dX16_init_28 rfl rfl ⟨rfl, rfl⟩ (z_return dX16_init_31 rfl (Nat.le_of_ble_eq_true rfl) (Nat.le_of_ble_eq_true rfl) ?_)))))))))))))))))
  exact h
theorem O_lend {d n f t g : Int32} (hI : TX σ Λ μ) (hC : CT σ) (h : ∀ r μ', TX (pLend σ d n f t g).1 Λ μ' → Fx μ μ' → XR [40, 38] (pLend σ d n f t g).2.1 (rI (pLend σ d n f t g).2.2) r → Q r μ') : Ct RX1 cX1_lend (6, some .int, [], false, rmm 8 3 17) [vr 1 0, vi d, vi n, vi f, vi t, vi g] μ Q := by
  refine Ct.of (ls := [some (vr 1 0), some (vi d), some (vi n), some (vi f), some (vi t), some (vi g)]) rfl fun Γ C ad => ?_
  have hX := hI.1
  have hR := hI.2.1
  unfold pLend at h
  by_cases h1 : isD d
  · rw [if_neg (nn h1)] at h
    have no : ¬ ((1 ≤ n ∧ n ≤ 30) ∧ σ 7 0 ≤ f ∧ f ≤ t ∧ t ≤ 1000 ∧ (0 ≤ g ∧ g ≤ 30)) → Z RX1 cX1_lend (6, some .int, [], false, rmm 8 3 17) (Γ, C, μ, ad, Q) (1) (6) (μ) 58 [some (vr 1 0), some (vi d), some (vi n), some (vi f), some (vi t), some (vi g)] [] := by
      intro q
      rw [if_pos q] at h
      refine z_iconst (v := 0) dX1_lend_58 (by decide) (z_invS1 (md_X1_must _) cs_X1_143 dX1_lend_59 rfl (Nat.le_of_ble_eq_true rfl) (Rm.ofB rfl) (X_mustF ?_))
      exact fun μ' i q => ⟨rfl, h _ _ (hI.exc q) (Fx.exc q) XR.e2⟩
    by_cases h2 : 1 ≤ n ∧ n ≤ 30
    · by_cases h3 : σ 7 0 ≤ f ∧ f ≤ 1000
      · by_cases h4 : f ≤ t ∧ t ≤ 1000
        · by_cases h5 : 0 ≤ g ∧ g ≤ 30
          · rw [if_neg (nn ⟨h2, h3.1, h4.1, h4.2, h5⟩)] at h
            by_cases h6 : σ 34 3 = 20
            · rw [if_pos h6] at h
              refine z_iload1 dX1_lend_0 (z_invS1 (md_X1_isDesk _) cs_X1_329 dX1_lend_1 rfl (Nat.le_of_ble_eq_true rfl) (Rm.ofB rfl) (X_deskT h1 (z_iload2 dX1_lend_4 (z_iconst (v := 1) dX1_lend_5 (by decide) (z_bipush (v := 30) dX1_lend_6 (by decide) (z_invS3 (md_X1_isIn _) cs_X1_114 dX1_lend_8 rfl (Nat.le_of_ble_eq_true rfl) (Rm.ofB rfl) (X_inT h2 (z_if_eq 58 dX1_lend_11 (by decide) (fun c => absurd c (n10)) (fun _ => z_iload3 dX1_lend_14 (z_aload0 dX1_lend_15 (z_getP fl_X1_42 dX1_lend_16 rfl rfl (hX.f1 5 (by decide)) (z_getIv fl_X1_140 dX1_lend_19 rfl rfl (hR.wd 0 (by decide)) (z_sipush (v := 1000) dX1_lend_22 (by decide) (z_invS3 (md_X1_isIn _) cs_X1_114 dX1_lend_25 rfl (Nat.le_of_ble_eq_true rfl) (Rm.ofB rfl) (X_inT h3 (z_if_eq 58 dX1_lend_28 (by decide) (fun c => absurd c (n10)) (fun _ => z_iload4 dX1_lend_31 (z_iload3 dX1_lend_33 (z_sipush (v := 1000) dX1_lend_34 (by decide) (z_invS3 (md_X1_isIn _) cs_X1_114 dX1_lend_37 rfl (Nat.le_of_ble_eq_true rfl) (Rm.ofB rfl) (X_inT h4 (z_if_eq 58 dX1_lend_40 (by decide) (fun c => absurd c (n10)) (fun _ => z_iload5 dX1_lend_43 (z_iconst (v := 0) dX1_lend_45 (by decide) (z_bipush (v := 30) dX1_lend_46 (by decide) (z_invS3 (md_X1_isIn _) cs_X1_114 dX1_lend_48 rfl (Nat.le_of_ble_eq_true rfl) (Rm.ofB rfl) (X_inT h5 (z_if_eq 58 dX1_lend_51 (by decide) (fun c => absurd c (n10)) (fun _ => z_iconst (v := 1) dX1_lend_54 (by decide) (z_goto 59 dX1_lend_55 (by decide) (z_invS1 (md_X1_must _) cs_X1_143 dX1_lend_59 rfl (Nat.le_of_ble_eq_true rfl) (Rm.ofB rfl) (X_mustT (z_aload0 dX1_lend_62 (z_getIv fl_X1_332 dX1_lend_63 rfl rfl (hR.t 3 (by decide)) (z_bipush (v := 20) dX1_lend_66 (by decide) (z_icmp_ne 73 dX1_lend_68 (by decide) (fun c => absurd (h6) c) (fun _ => z_iconst (v := (-1)) dX1_lend_71 (by decide) (z_ireturn dX1_lend_72 rfl (Nat.le_of_ble_eq_true rfl) (Nat.le_of_ble_eq_true rfl) ?_))))))))))))))))))))))))))))))))))))))
              exact h _ _ hI Fx.rf XR.ok
            · rw [if_neg h6] at h
              obtain ⟨l, hl, el⟩ : ∃ l, l = tn (σ 34 3) ∧ σ 34 3 = nI l := ⟨_, rfl, hC.2.2.2.1.1⟩
              have nl := hC.nl
              have hl20 : l < 20 := by
                have : l ≠ 20 := fun q => h6 (by rw [el, q]; rfl)
                omega
              have hC36 : gC μ 36 = l := by rw [hl]; exact hX.2.2.2.2.2.2.2.1.2
              have R1 := hR.wN 36 0
              rw [hC36] at R1
              have R2 := ((((((R1.set (by decide) 28 l d (sX_col (by decide))).set (by decide) 29 l n (sX_col (by decide))).set (by decide) 30 l f (sX_col (by decide))).set (by decide) 31 l t (sX_col (by decide))).set (by decide) 32 l g (sX_col (by decide))).set (by decide) 34 3 (σ 34 3 + 1) (show (3 : Nat) < 16 by decide))
              rw [← hl] at h
              refine z_iload1 dX1_lend_0 (z_invS1 (md_X1_isDesk _) cs_X1_329 dX1_lend_1 rfl (Nat.le_of_ble_eq_true rfl) (Rm.ofB rfl) (X_deskT h1 (z_iload2 dX1_lend_4 (z_iconst (v := 1) dX1_lend_5 (by decide) (z_bipush (v := 30) dX1_lend_6 (by decide) (z_invS3 (md_X1_isIn _) cs_X1_114 dX1_lend_8 rfl (Nat.le_of_ble_eq_true rfl) (Rm.ofB rfl) (X_inT h2 (z_if_eq 58 dX1_lend_11 (by decide) (fun c => absurd c (n10)) (fun _ => z_iload3 dX1_lend_14 (z_aload0 dX1_lend_15 (z_getP fl_X1_42 dX1_lend_16 rfl rfl (hX.f1 5 (by decide)) (z_getIv fl_X1_140 dX1_lend_19 rfl rfl (hR.wd 0 (by decide)) (z_sipush (v := 1000) dX1_lend_22 (by decide) (z_invS3 (md_X1_isIn _) cs_X1_114 dX1_lend_25 rfl (Nat.le_of_ble_eq_true rfl) (Rm.ofB rfl) (X_inT h3 (z_if_eq 58 dX1_lend_28 (by decide) (fun c => absurd c (n10)) (fun _ => z_iload4 dX1_lend_31 (z_iload3 dX1_lend_33 (z_sipush (v := 1000) dX1_lend_34 (by decide) (z_invS3 (md_X1_isIn _) cs_X1_114 dX1_lend_37 rfl (Nat.le_of_ble_eq_true rfl) (Rm.ofB rfl) (X_inT h4 (z_if_eq 58 dX1_lend_40 (by decide) (fun c => absurd c (n10)) (fun _ => z_iload5 dX1_lend_43 (z_iconst (v := 0) dX1_lend_45 (by decide) (z_bipush (v := 30) dX1_lend_46 (by decide) (z_invS3 (md_X1_isIn _) cs_X1_114 dX1_lend_48 rfl (Nat.le_of_ble_eq_true rfl) (Rm.ofB rfl) (X_inT h5 (z_if_eq 58 dX1_lend_51 (by decide) (fun c => absurd c (n10)) (fun _ => z_iconst (v := 1) dX1_lend_54 (by decide) (z_goto 59 dX1_lend_55 (by decide) (z_invS1 (md_X1_must _) cs_X1_143 dX1_lend_59 rfl (Nat.le_of_ble_eq_true rfl) (Rm.ofB rfl) (X_mustT (z_aload0 dX1_lend_62 (z_getIv fl_X1_332 dX1_lend_63 rfl rfl (hR.t 3 (by decide)) (z_bipush (v := 20) dX1_lend_66 (by decide) (z_icmp_ne 73 dX1_lend_68 (by decide) (fun _ => ?_) (fun c => absurd c (h6))))))))))))))))))))))))))))))))))))))
              have g3 : ∀ v1 v2 v3 v4 v5, gI (sP (sI (sI (sI (sI (sI (nw μ 36 0) 36 (gC μ 36) 0 v1) 36 (gC μ 36) 1 v2) 36 (gC μ 36) 2 v3) 36 (gC μ 36) 3 v4) 36 (gC μ 36) 4 v5) 18 0 l (some (36, gC μ 36))) 1 0 16 = σ 34 3 := by
                intro v1 v2 v3 v4 v5
                rw [gI_sP]
                simp only [gI_sI, gI_nw]
                exact hR.t 3 (by decide)
              refine z_aload0 dX1_lend_73 (z_getP fl_X1_57 dX1_lend_74 rfl rfl (hX.f1 8 (by decide)) (z_aload0 dX1_lend_77 (z_getIv fl_X1_332 dX1_lend_78 rfl rfl (hR.t 3 (by decide)) (z_new 36 nw_X1_55 dX1_lend_81 rfl (by decide) rfl (Nat.le_of_ble_eq_true rfl) (Nat.le_of_ble_eq_true rfl) (z_dupa dX1_lend_84 (z_iload1 dX1_lend_85 (z_iload2 dX1_lend_86 (z_iload3 dX1_lend_87 (z_iload4 dX1_lend_88 (z_iload5 dX1_lend_90 (z_invI5 (md_X16_init _) ci_X1_335 dX1_lend_92 rfl (Nat.le_of_ble_eq_true rfl) (Rm.ofB rfl) (X_lnInit (z_aast dX1_lend_95 rfl (by decide) rfl rfl rfl ⟨el, hl20, Nat.le_of_ble_eq_true rfl⟩ (z_aload0 dX1_lend_96 (z_dupa dX1_lend_97 (z_getIv fl_X1_332 dX1_lend_98 rfl rfl (g3 _ _ _ _ _) (z_iconst (v := 1) dX1_lend_101 (by decide) (z_iadd dX1_lend_102 (z_putI fl_X1_332 dX1_lend_103 rfl rfl ⟨rfl, rfl⟩ (z_aload0 dX1_lend_106 (z_getIv fl_X1_332 dX1_lend_107 rfl rfl (by rw [gI_sI, if_pos ⟨rfl, rfl, rfl⟩]) (z_ireturn dX1_lend_110 rfl (Nat.le_of_ble_eq_true rfl) (Nat.le_of_ble_eq_true rfl) ?_))))))))))))))))))))))
              rw [hC36]
              have kp : KP μ (sI (sP (sI (sI (sI (sI (sI (nw μ 36 0) 36 l 0 d) 36 l 1 n) 36 l 2 f) 36 l 3 t) 36 l 4 g) 18 0 l (some (36, l))) 1 0 16 (σ 34 3 + 1)) := (((((((KP.nw (fun _ => rfl)).tr (KP.sI (Or.inl (by omega)))).tr (KP.sI (Or.inl (by omega)))).tr (KP.sI (Or.inl (by omega)))).tr (KP.sI (Or.inl (by omega)))).tr (KP.sI (Or.inl (by omega)))).tr (KP.sP (Or.inl (by omega)))).tr (KP.sI (Or.inl (by omega)))
              refine h _ _ ⟨?_, ?_, ?_, ?_⟩ ?_ XR.ok
              · show XP (tn (σ 34 1)) (tn (σ 34 2)) (tn (σ 34 3 + 1)) (tn (σ 7 4)) (tn (σ 34 0)) _
                rw [el, nI_1, tn_nI (by omega)]
                refine hX.ln (fun p i k _ h1 h2 => ?_) (fun p _ h1 h2 => ?_) ⟨fun k hk => ?_, ?_⟩
                · rw [gP_sI, gP_sP, if_neg (fun q => h1 q.1)]
                  show gP (nw μ 36 0) p i k = _
                  rw [gP_nw, if_neg (fun q => h2 q.1)]
                · show gC (nw μ 36 0) p = _
                  rw [gC_nw, if_neg h2]
                · rw [gP_sI, gP_sP]
                  by_cases q : k = l
                  · rw [if_pos ⟨rfl, rfl, q⟩, q]
                  · rw [if_neg (fun z => q z.2.2)]
                    show gP (nw μ 36 0) 18 0 k = _
                    rw [gP_nw, if_neg (fun z => absurd z.1 (by decide))]
                    exact hX.lo (by omega)
                · show gC (nw μ 36 0) 36 = _
                  rw [gC_nw, if_pos rfl, hC36]
              · refine RepX.cgs R2 fun c i hs => ?_
                have hz := zap_of (σ := σ) (P := 36) (j := l) (cols := [28, 29, 30, 31, 32]) (by decide) (by decide) (by decide) hs
                simp only [List.mem_cons, List.not_mem_nil, or_false] at hz
                dsimp only
                simp only [up2_eq, hz]
                grind
              · exact hI.2.2.1.kp kp rfl (fun _ => rfl) (fun _ _ => rfl)
              · exact hI.2.2.2.kp kp rfl (fun _ => rfl) (fun _ => rfl) (fun _ _ => rfl)
              · exact (((Fx.rf.nw).sI.sI.sI.sI.sI).sP).sI
          · refine z_iload1 dX1_lend_0 (z_invS1 (md_X1_isDesk _) cs_X1_329 dX1_lend_1 rfl (Nat.le_of_ble_eq_true rfl) (Rm.ofB rfl) (X_deskT h1 (z_iload2 dX1_lend_4 (z_iconst (v := 1) dX1_lend_5 (by decide) (z_bipush (v := 30) dX1_lend_6 (by decide) (z_invS3 (md_X1_isIn _) cs_X1_114 dX1_lend_8 rfl (Nat.le_of_ble_eq_true rfl) (Rm.ofB rfl) (X_inT h2 (z_if_eq 58 dX1_lend_11 (by decide) (fun c => absurd c (n10)) (fun _ => z_iload3 dX1_lend_14 (z_aload0 dX1_lend_15 (z_getP fl_X1_42 dX1_lend_16 rfl rfl (hX.f1 5 (by decide)) (z_getIv fl_X1_140 dX1_lend_19 rfl rfl (hR.wd 0 (by decide)) (z_sipush (v := 1000) dX1_lend_22 (by decide) (z_invS3 (md_X1_isIn _) cs_X1_114 dX1_lend_25 rfl (Nat.le_of_ble_eq_true rfl) (Rm.ofB rfl) (X_inT h3 (z_if_eq 58 dX1_lend_28 (by decide) (fun c => absurd c (n10)) (fun _ => z_iload4 dX1_lend_31 (z_iload3 dX1_lend_33 (z_sipush (v := 1000) dX1_lend_34 (by decide) (z_invS3 (md_X1_isIn _) cs_X1_114 dX1_lend_37 rfl (Nat.le_of_ble_eq_true rfl) (Rm.ofB rfl) (X_inT h4 (z_if_eq 58 dX1_lend_40 (by decide) (fun c => absurd c (n10)) (fun _ => z_iload5 dX1_lend_43 (z_iconst (v := 0) dX1_lend_45 (by decide) (z_bipush (v := 30) dX1_lend_46 (by decide) (z_invS3 (md_X1_isIn _) cs_X1_114 dX1_lend_48 rfl (Nat.le_of_ble_eq_true rfl) (Rm.ofB rfl) (X_inF h5 (z_if_eq 58 dX1_lend_51 (by decide) (fun _ => ?_) (fun c => absurd (rfl) c)))))))))))))))))))))))))))))
            exact no fun q => h5 q.2.2.2.2
        · refine z_iload1 dX1_lend_0 (z_invS1 (md_X1_isDesk _) cs_X1_329 dX1_lend_1 rfl (Nat.le_of_ble_eq_true rfl) (Rm.ofB rfl) (X_deskT h1 (z_iload2 dX1_lend_4 (z_iconst (v := 1) dX1_lend_5 (by decide) (z_bipush (v := 30) dX1_lend_6 (by decide) (z_invS3 (md_X1_isIn _) cs_X1_114 dX1_lend_8 rfl (Nat.le_of_ble_eq_true rfl) (Rm.ofB rfl) (X_inT h2 (z_if_eq 58 dX1_lend_11 (by decide) (fun c => absurd c (n10)) (fun _ => z_iload3 dX1_lend_14 (z_aload0 dX1_lend_15 (z_getP fl_X1_42 dX1_lend_16 rfl rfl (hX.f1 5 (by decide)) (z_getIv fl_X1_140 dX1_lend_19 rfl rfl (hR.wd 0 (by decide)) (z_sipush (v := 1000) dX1_lend_22 (by decide) (z_invS3 (md_X1_isIn _) cs_X1_114 dX1_lend_25 rfl (Nat.le_of_ble_eq_true rfl) (Rm.ofB rfl) (X_inT h3 (z_if_eq 58 dX1_lend_28 (by decide) (fun c => absurd c (n10)) (fun _ => z_iload4 dX1_lend_31 (z_iload3 dX1_lend_33 (z_sipush (v := 1000) dX1_lend_34 (by decide) (z_invS3 (md_X1_isIn _) cs_X1_114 dX1_lend_37 rfl (Nat.le_of_ble_eq_true rfl) (Rm.ofB rfl) (X_inF h4 (z_if_eq 58 dX1_lend_40 (by decide) (fun _ => ?_) (fun c => absurd (rfl) c)))))))))))))))))))))))
          exact no fun q => h4 ⟨q.2.2.1, q.2.2.2.1⟩
      · refine z_iload1 dX1_lend_0 (z_invS1 (md_X1_isDesk _) cs_X1_329 dX1_lend_1 rfl (Nat.le_of_ble_eq_true rfl) (Rm.ofB rfl) (X_deskT h1 (z_iload2 dX1_lend_4 (z_iconst (v := 1) dX1_lend_5 (by decide) (z_bipush (v := 30) dX1_lend_6 (by decide) (z_invS3 (md_X1_isIn _) cs_X1_114 dX1_lend_8 rfl (Nat.le_of_ble_eq_true rfl) (Rm.ofB rfl) (X_inT h2 (z_if_eq 58 dX1_lend_11 (by decide) (fun c => absurd c (n10)) (fun _ => z_iload3 dX1_lend_14 (z_aload0 dX1_lend_15 (z_getP fl_X1_42 dX1_lend_16 rfl rfl (hX.f1 5 (by decide)) (z_getIv fl_X1_140 dX1_lend_19 rfl rfl (hR.wd 0 (by decide)) (z_sipush (v := 1000) dX1_lend_22 (by decide) (z_invS3 (md_X1_isIn _) cs_X1_114 dX1_lend_25 rfl (Nat.le_of_ble_eq_true rfl) (Rm.ofB rfl) (X_inF h3 (z_if_eq 58 dX1_lend_28 (by decide) (fun _ => ?_) (fun c => absurd (rfl) c)))))))))))))))))
        exact no fun q => h3 ⟨q.2.1, Int32.le_trans q.2.2.1 q.2.2.2.1⟩
    · refine z_iload1 dX1_lend_0 (z_invS1 (md_X1_isDesk _) cs_X1_329 dX1_lend_1 rfl (Nat.le_of_ble_eq_true rfl) (Rm.ofB rfl) (X_deskT h1 (z_iload2 dX1_lend_4 (z_iconst (v := 1) dX1_lend_5 (by decide) (z_bipush (v := 30) dX1_lend_6 (by decide) (z_invS3 (md_X1_isIn _) cs_X1_114 dX1_lend_8 rfl (Nat.le_of_ble_eq_true rfl) (Rm.ofB rfl) (X_inF h2 (z_if_eq 58 dX1_lend_11 (by decide) (fun _ => ?_) (fun c => absurd (rfl) c)))))))))
      exact no fun q => h2 q.1
  · rw [if_pos h1] at h
    refine z_iload1 dX1_lend_0 (z_invS1 (md_X1_isDesk _) cs_X1_329 dX1_lend_1 rfl (Nat.le_of_ble_eq_true rfl) (Rm.ofB rfl) (X_deskF h1 ?_))
    exact fun μ' i q => ⟨rfl, h _ _ (hI.exc q) (Fx.exc q) XR.e1⟩
end O4
