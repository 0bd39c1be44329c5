/-! Model: days, ahead -/
section M11
variable {μ μ' : Mem} {Q : Res → Mem → Prop} {σ : Sg} {Λ : Lws}
theorem th_day (m : Bool) (σ : Sg) (r : Int32) : SameTh σ (dayF m σ r) := by
  have h1 : SameTh σ (dawnF m σ) := (SameTh.rf.up (by omega)).tr (th_getL m _ _)
  exact ((h1.up (by omega)).up (by omega)).tr (th_worksL m _ r 4)
theorem RepM.u13 {v : Int32} (hR : RepM σ μ) : RepM (up2 σ 34 13 v) μ := by
  intro c i hv
  have hne : ¬ (c = 34 ∧ i = 13) := by
    rintro ⟨rfl, rfl⟩
    exact hv.1.2.2.2 rfl
  rw [up2_eq, if_neg hne]
  refine hR c i ⟨hv.1, fun q => ?_⟩
  have := hv.2 q
  rw [up2_eq, if_neg (by simp)] at this
  exact this
theorem PD.u13 {n np nl : Nat} {v : Int32} (h : PD σ n np nl) : PD (up2 σ 34 13 v) n np nl := by
  have e : ∀ c i, ¬ (c = 34 ∧ i = 13) → up2 σ 34 13 v c i = σ c i := fun c i q => by rw [up2_eq, if_neg q]
  obtain ⟨⟨h1, h2⟩, ⟨h3, h4⟩, ⟨h5, h6⟩, h7, h8⟩ := h
  refine ⟨⟨(e 34 2 (by decide)).trans h1, h2⟩, ⟨(e 34 1 (by decide)).trans h3, h4⟩, ⟨(e 34 3 (by decide)).trans h5, h6⟩, fun a ha => ?_, fun a ha => ?_⟩
  · rw [e 12 a (by omega)]; exact h7 a ha
  · rw [e 16 a (by omega)]; exact h8 a ha
theorem BR.u13 {v : Int32} (h : BR σ) : BR (up2 σ 34 13 v) := fun t => by
  have e : ∀ c i, ¬ (c = 34 ∧ i = 13) → up2 σ 34 13 v c i = σ c i := fun c i q => by rw [up2_eq, if_neg q]
  unfold brokB
  rw [e 34 16 (by decide), e 34 17 (by decide), e 34 10 (by decide), e 34 11 (by decide)]
  exact h t
theorem day_74 (m : Bool) (σ : Sg) (r : Int32) {nb : Nat} (h1 : σ 7 4 = nI nb) (h2 : nb ≤ 150) : ∃ nb', dayF m σ r 7 4 = nI nb' ∧ nb' ≤ 150 := by
  refine worksL_74 m _ r (nb := nb) ?_ h2 4 (by decide)
  rw [up2_eq, if_neg (by simp), up2_eq, if_neg (by simp), dawnF, getL_7 m _ 4 (by decide), up2_eq, if_neg (by simp)]
  exact h1
theorem days_ok {n np nl : Nat} (hP : PD σ n np nl) (hB : BR σ) {nb : Nat} (hb : σ 7 4 = nI nb) (hb2 : nb ≤ 150) : ∀ k, PD (daysL σ k) n np nl ∧ BR (daysL σ k) ∧ ∃ nb, daysL σ k 7 4 = nI nb ∧ nb ≤ 150
  | 0 => ⟨hP, hB, nb, hb, hb2⟩
  | k + 1 => by
    obtain ⟨h1, h2, nb', h3, h4⟩ := days_ok hP hB hb hb2 k
    rw [daysL]
    split
    · obtain ⟨nb2, h5, h6⟩ := day_74 true (daysL σ k) (daysL σ k 34 9) h3 h4
      exact ⟨(h1.th (th_day true _ _)).u13, (h2.th (th_day true _ _)).u13, nb2, by rw [up2_eq, if_neg (by simp)]; exact h5, h6⟩
    · exact ⟨h1, h2, nb', h3, h4⟩
theorem days_stop {k : Nat} (h : ¬ daysL σ k 7 0 < 1000) : ∀ m, daysL σ (k + m) = daysL σ k
  | 0 => rfl
  | m + 1 => by
    rw [← Nat.add_assoc, daysL, days_stop h m, if_neg h]
theorem n0D (h : Dif SD μ μ') : gI μ' 50 0 0 = gI μ 50 0 0 := by
  refine h.2 _ _ _ ?_
  rintro ((⟨-, c, j, hs, h1, h2⟩ | h1) | h1)
  · have h7 : ∀ c, c < 40 → 50 = mp c → c = 7 ∨ c = 34 := by decide +kernel
    have h8 : ∀ j, j < 6 → 0 ≠ tS.getD j 0 := by decide +kernel
    have h9 : ∀ j, j < 18 → 0 ≠ tT.getD j 0 := by decide +kernel
    rcases h7 c (sM_lt hs) h1 with rfl | rfl
    · exact h8 j (sM_7 hs) h2
    · exact h9 j (sM_34 hs) h2
  · rcases h1 with h1 | ⟨-, -, h1⟩ <;> cases h1
  · have := h1.2.2; omega
theorem P_days {x : Int32} (hI : TM σ Λ μ) {n np nl : Nat} (hP : PD σ n np nl) (hB : BR σ) {nb : Nat} (hb : σ 7 4 = nI nb) (hb2 : nb ≤ 150) (h : ∀ μ', TM (pDays σ x).1 Λ μ' → Fm μ μ' → gI μ' 50 0 0 = (pDays σ x).2.1 → Q (rI (pDays σ x).2.2) μ') : Ct RX5 cX5_days (3, some .int, [], false, rmm 7 0 0) [vr 50 0, vi x] μ Q := by
  refine Ct.of (ls := [some (vr 50 0), some (vi x), none]) rfl fun Γ C ad => ?_
  have hT := hI.th (v := 0)
  unfold pDays at h
  by_cases h1 : 0 ≤ x ∧ x ≤ 60
  · rw [if_neg (nn h1)] at h
    obtain ⟨N, hN, eN⟩ := in_nI (n := 60) h1 rfl
    rw [eN, tn_nI (by omega)] at h
    refine z_aload0 dX5_days_0 (z_iconst (v := 0) dX5_days_1 (by decide) (z_putI fl_X5_178 dX5_days_2 rfl rfl ⟨rfl, rfl⟩ (z_aload0 dX5_days_5 (z_iload1 dX5_days_6 (z_iconst (v := 0) dX5_days_7 (by decide) (z_bipush (v := 60) dX5_days_8 (by decide) (z_invS3 (md_X5_in _) cs_X5_317 dX5_days_10 rfl (by decide) (Rm.ofB rfl) (M_inT h1 (z_if_ne 20 dX5_days_13 (by decide) (fun _ => z_iconst (v := 0) dX5_days_20 (by decide) (z_iconst (v := 1) dX5_days_21 (by decide) (z_invV2 (md_X5_throwsIf _) cv_X5_321 rfl dX5_days_22 rfl (by decide) (Rm.ofB rfl) (M_thrF (z_if_eq 30 dX5_days_25 (by decide) (fun _ => z_iconst (v := 0) dX5_days_30 (by decide) (z_istore2 dX5_days_31 ?_)) (fun c => absurd (rfl) c)))))) (fun c => absurd c (n10)))))))))))
    have fin : ∀ k, k ≤ N → daysL σ k = daysL σ N → ∀ μ', TM (daysL σ k) Λ μ' → Fm μ μ' → gI μ' 50 0 0 = 0 → Z RX5 cX5_days (3, some .int, [], false, rmm 7 0 0) (Γ, C, μ, ad, Q) (0) (0) (μ') 61 [some (vr 50 0), some (vi x), some (vi (nI k))] [] := by
      intro k hk e μ' hT' hF h0
      have hR' := hT'.2.1
      refine z_aload0 dX5_days_61 (z_getIv fl_X5_314 dX5_days_62 rfl rfl (hR'.s7 0 (by decide)) (z_ireturn dX5_days_65 rfl (by decide) (by decide) ?_))
      rw [← e] at h
      exact h μ' hT' hF h0
    refine loopN (P := fun k => ∀ μ', TM (daysL σ k) Λ μ' → Fm μ μ' → gI μ' 50 0 0 = 0 → Z RX5 cX5_days (3, some .int, [], false, rmm 7 0 0) (Γ, C, μ, ad, Q) (0) (0) (μ') 32 [some (vr 50 0), some (vi x), some (vi (nI k))] []) N ?_ ?_ 0 (Nat.zero_le _) _ hT (Fm.rf.sI) (by simp [gI_sI])
    · intro μ' hT' hF h0
      refine z_iload2 dX5_days_32 (z_iload1 dX5_days_33 (z_icmp_ge 61 dX5_days_34 (by decide) (fun _ => ?_) (fun c => absurd (lpt eN) c)))
      exact fin N (Nat.le_refl _) rfl μ' hT' hF h0
    · intro k hk ih μ' hT' hF h0
      have hR' := hT'.2.1
      obtain ⟨hPk, hBk, nbk, hbk, hbk2⟩ := days_ok hP hB hb hb2 k
      by_cases h2 : daysL σ k 7 0 < 1000
      · rw [daysL, if_pos h2] at ih
        refine z_iload2 dX5_days_32 (z_iload1 dX5_days_33 (z_icmp_ge 61 dX5_days_34 (by decide) (fun c => absurd c (lpf eN hk (by omega))) (fun _ => z_aload0 dX5_days_37 (z_getIv fl_X5_314 dX5_days_38 rfl rfl (hR'.s7 0 (by decide)) (z_sipush (v := 1000) dX5_days_41 (by decide) (z_icmp_ge 61 dX5_days_44 (by decide) (fun c => absurd c (Int32.not_le.mpr h2)) (fun _ => z_aload0 dX5_days_47 (z_aload0 dX5_days_48 (z_getIv fl_X5_403 dX5_days_49 rfl rfl (hR'.s34 9 (by decide)) (z_invV1 (md_X5_day _) cv_X5_490 rfl dX5_days_52 rfl (by decide) (Rm.ofB rfl) (M_day hT'.1 hR' hPk hBk hbk hbk2 (fun μ2 hR2 h75 hD2 => ?_))))))))))))
        refine z_iinc2 dX5_days_55 (inc1 k) (z_goto 32 dX5_days_58 (by decide) ?_)
        have t1 := th_day true (daysL σ k) (daysL σ k 34 9)
        exact ih μ2 (hT'.go hR2.u13 hD2 (fun p i k q => SD_ge q) (by rw [h75, up2_eq, if_pos ⟨rfl, rfl⟩, hT'.2.2.1]) (by rw [up2_eq, if_neg (by simp)]; exact t1 34 0 (by omega)) (fun l => by rw [up2_eq, if_neg (by simp)]; exact t1 39 l (by omega))) (hF.tr (hD2.fm fun p i k q => SD_ge q)) ((n0D hD2).trans h0)
      · refine z_iload2 dX5_days_32 (z_iload1 dX5_days_33 (z_icmp_ge 61 dX5_days_34 (by decide) (fun c => absurd c (lpf eN hk (by omega))) (fun _ => z_aload0 dX5_days_37 (z_getIv fl_X5_314 dX5_days_38 rfl rfl (hR'.s7 0 (by decide)) (z_sipush (v := 1000) dX5_days_41 (by decide) (z_icmp_ge 61 dX5_days_44 (by decide) (fun _ => ?_) (fun c => absurd (Int32.not_lt.mp h2) c)))))))
        refine fin k (by omega) ?_ μ' hT' hF h0
        have := days_stop h2 (N - k)
        rw [show k + (N - k) = N by omega] at this
        exact this.symm
  · rw [if_pos h1] at h
    refine z_aload0 dX5_days_0 (z_iconst (v := 0) dX5_days_1 (by decide) (z_putI fl_X5_178 dX5_days_2 rfl rfl ⟨rfl, rfl⟩ (z_aload0 dX5_days_5 (z_iload1 dX5_days_6 (z_iconst (v := 0) dX5_days_7 (by decide) (z_bipush (v := 60) dX5_days_8 (by decide) (z_invS3 (md_X5_in _) cs_X5_317 dX5_days_10 rfl (by decide) (Rm.ofB rfl) (M_inF h1 (z_if_ne 20 dX5_days_13 (by decide) (fun c => absurd (rfl) c) (fun _ => z_iconst (v := 1) dX5_days_16 (by decide) (z_goto 21 dX5_days_17 (by decide) (z_iconst (v := 1) dX5_days_21 (by decide) (z_invV2 (md_X5_throwsIf _) cv_X5_321 rfl dX5_days_22 rfl (by decide) (Rm.ofB rfl) (M_thrT (z_if_eq 30 dX5_days_25 (by decide) (fun c => absurd c (n10)) (fun _ => z_iconst (v := 0) dX5_days_28 (by decide) (z_ireturn dX5_days_29 rfl (by decide) (by decide) ?_)))))))))))))))))
    exact h _ hT.th (Fm.rf.sI.sI) (by simp [gI_sI])
theorem deskF_st {s : Int32} {d : Nat} (hd : d < 4) (h : s = stAt (nI d)) : deskF s = nI d := by
  have : d = 0 ∨ d = 1 ∨ d = 2 ∨ d = 3 := by omega
  rcases this with rfl | rfl | rfl | rfl <;> subst h <;> rfl
theorem deskF_no {s : Int32} (h : ∀ d, d < 4 → s ≠ stAt (nI d)) : deskF s = -1 := by
  unfold deskF
  rw [if_neg (show ¬ s = 0 from h 0 (by decide)), if_neg (show ¬ s = 2 from h 1 (by decide)), if_neg (show ¬ s = 4 from h 2 (by decide)), if_neg (show ¬ s = 5 from h 3 (by decide))]
theorem P_ahead {a : Int32} (hI : TM σ Λ μ) {n np nl : Nat} (hP : PD σ n np nl) (h : ∀ μ', TM (pAhead σ a).1 Λ μ' → Fm μ μ' → gI μ' 50 0 0 = (pAhead σ a).2.1 → Q (rI (pAhead σ a).2.2) μ') : Ct RX5 cX5_ahead (5, some .int, [], false, rmm 4 0 0) [vr 50 0, vi a] μ Q := by
  refine Ct.of (ls := [some (vr 50 0), some (vi a), none, none, none]) rfl fun Γ C ad => ?_
  have hT := hI.th (v := 0)
  have hR := hT.2.1
  have hM := hT.1
  have n120 := hP.1.2
  unfold pAhead at h
  by_cases h1 : isA σ a
  · rw [if_neg (nn h1)] at h
    have h' := h _ hT (Fm.rf.sI) (by simp [gI_sI])
    obtain ⟨i, hi, ei⟩ := lt_nI hP.1.1 (by omega) h1
    rw [ei, tn_nI (by omega)] at h'
    dsimp only at h'
    have e0 := hR.col 0 i (by decide)
    refine z_aload0 dX5_ahead_0 (z_iconst (v := 0) dX5_ahead_1 (by decide) (z_putI fl_X5_178 dX5_ahead_2 rfl rfl ⟨rfl, rfl⟩ (z_aload0 dX5_ahead_5 (z_aload0 dX5_ahead_6 (z_iload1 dX5_ahead_7 (z_invV1 (md_X5_noAsking _) cv_X5_431 rfl dX5_ahead_8 rfl (by decide) (Rm.ofB rfl) (M_noAskingF hR h1 (z_iconst (v := 1) dX5_ahead_11 (by decide) (z_invV2 (md_X5_throwsIf _) cv_X5_321 rfl dX5_ahead_12 rfl (by decide) (Rm.ofB rfl) (M_thrF (z_if_eq 20 dX5_ahead_15 (by decide) (fun _ => z_iconst (v := 0) dX5_ahead_20 (by decide) (z_istore2 dX5_ahead_21 ?_)) (fun c => absurd (rfl) c))))))))))))
    have inner : ∀ d, d < 4 → σ 0 i = stAt (nI d) → Z RX5 cX5_ahead (5, some .int, [], false, rmm 4 0 0) (Γ, C, μ, ad, Q) (0) (0) (sI μ 50 0 0 0) 43 [some (vr 50 0), some (vi a), some (vi (nI d)), none, none] [] := by
      intro d hd hs
      rw [deskF_st hd hs, if_neg (fun q => by have : d = 0 ∨ d = 1 ∨ d = 2 ∨ d = 3 := by omega
                                              rcases this with rfl | rfl | rfl | rfl <;> revert q <;> decide), aheadN, show tn (σ 34 2) = n by rw [hP.1.1, tn_nI (by omega)]] at h'
      refine z_iconst (v := 0) dX5_ahead_43 (by decide) (z_istore3 dX5_ahead_44 (z_iconst (v := 0) dX5_ahead_45 (by decide) (z_istore4 dX5_ahead_46 ?_)))
      refine loopN (P := fun k => Z RX5 cX5_ahead (5, some .int, [], false, rmm 4 0 0) (Γ, C, μ, ad, Q) (0) (0) (sI μ 50 0 0 0) 48 [some (vr 50 0), some (vi a), some (vi (nI d)), some (vi (cntB (fun b => decide (b ≠ i) && decide (σ 0 b = stAt (nI d)) && aheadB σ (σ 34 9) b i) k)), some (vi (nI k))] []) n ?_ ?_ 0 (Nat.zero_le _)
      · refine z_iload4 dX5_ahead_48 (z_aload0 dX5_ahead_50 (z_getIv fl_X5_412 dX5_ahead_51 rfl rfl (hR.s34 2 (by decide)) (z_icmp_ge 105 dX5_ahead_54 (by decide) (fun _ => z_iload3 dX5_ahead_105 (z_ireturn dX5_ahead_106 rfl (by decide) (by decide) ?_)) (fun c => absurd (lpt hP.1.1) c))))
        exact h'
      · intro k hk ih
        rw [cntB] at ih
        have no : ¬ ((decide (k ≠ i) && decide (σ 0 k = stAt (nI d)) && aheadB σ (σ 34 9) k i) = true) → Z RX5 cX5_ahead (5, some .int, [], false, rmm 4 0 0) (Γ, C, μ, ad, Q) (0) (0) (sI μ 50 0 0 0) 96 [some (vr 50 0), some (vi a), some (vi (nI d)), some (vi (cntB (fun b => decide (b ≠ i) && decide (σ 0 b = stAt (nI d)) && aheadB σ (σ 34 9) b i) k)), some (vi (nI k))] [vi (cntB (fun b => decide (b ≠ i) && decide (σ 0 b = stAt (nI d)) && aheadB σ (σ 34 9) b i) k)] := by
          intro q
          rw [if_neg q] at ih
          refine z_iconst (v := 0) dX5_ahead_96 (by decide) (z_iadd dX5_ahead_97 (z_istore3 dX5_ahead_98 (z_iinc4 dX5_ahead_99 (inc1 k) (z_goto 48 dX5_ahead_102 (by decide) ?_))))
          exact ih
        refine z_iload4 dX5_ahead_48 (z_aload0 dX5_ahead_50 (z_getIv fl_X5_412 dX5_ahead_51 rfl rfl (hR.s34 2 (by decide)) (z_icmp_ge 105 dX5_ahead_54 (by decide) (fun c => absurd c (lpf hP.1.1 hk (by omega))) (fun _ => z_iload3 dX5_ahead_57 (z_iload4 dX5_ahead_58 (z_iload1 dX5_ahead_60 (z_icmp_eq 96 dX5_ahead_61 (by decide) (fun c_61 => ?_) (fun c_61 => ?_))))))))
        · rw [ei] at c_61
          have e := (nI_eq (by omega) (by omega)).mp c_61
          exact no (by simp [e])
        · have hne : k ≠ i := fun q => c_61 (by rw [q, ei])
          refine z_aload0 dX5_ahead_64 (z_iload4 dX5_ahead_65 (z_iconst (v := 0) dX5_ahead_67 (by decide) (z_invV2 (md_X5_now _) cv_X5_434 rfl dX5_ahead_68 rfl (by decide) (Rm.ofB rfl) (M_nowv (w := 0) hM rfl rfl (by omega) (hR.col 0 k (by decide)) (z_iload2 dX5_ahead_71 (z_invS1 (md_X5_stateAt _) cs_X5_450 dX5_ahead_72 rfl (by decide) (Rm.ofB rfl) (M_stateAt (z_icmp_ne 96 dX5_ahead_75 (by decide) (fun c_75 => ?_) (fun c_75 => ?_)))))))))
          · exact no (by simp [c_75])
          · refine z_aload0 dX5_ahead_78 (z_iload4 dX5_ahead_79 (z_iload1 dX5_ahead_81 (z_aload0 dX5_ahead_82 (z_getIv fl_X5_403 dX5_ahead_83 rfl rfl (hR.s34 9 (by decide)) (z_invV3 (md_X5_isAhead _) cv_X5_453 rfl dX5_ahead_86 rfl (by decide) (Rm.ofB rfl) (M_isAhead hM hR rfl ei (by omega) (by omega) (hP.2.2.2.2 k hk) (z_if_eq 96 dX5_ahead_89 (by decide) (fun c_89 => ?_) (fun c_89 => ?_))))))))
            · exact no (by simp [bI_0.mp c_89])
            · rw [if_pos (by simp [hne, c_75, bI_n0 c_89])] at ih
              refine z_iconst (v := 1) dX5_ahead_92 (by decide) (z_goto 97 dX5_ahead_93 (by decide) (z_iadd dX5_ahead_97 (z_istore3 dX5_ahead_98 (z_iinc4 dX5_ahead_99 (inc1 k) (z_goto 48 dX5_ahead_102 (by decide) ?_)))))
              exact ih
    have outer : ∀ d, d ≤ 4 → (∀ d', d' < d → σ 0 i ≠ stAt (nI d')) → Z RX5 cX5_ahead (5, some .int, [], false, rmm 4 0 0) (Γ, C, μ, ad, Q) (0) (0) (sI μ 50 0 0 0) 22 [some (vr 50 0), some (vi a), some (vi (nI d)), none, none] [] := by
      refine loopN (P := fun d => (∀ d', d' < d → σ 0 i ≠ stAt (nI d')) → Z RX5 cX5_ahead (5, some .int, [], false, rmm 4 0 0) (Γ, C, μ, ad, Q) (0) (0) (sI μ 50 0 0 0) 22 [some (vr 50 0), some (vi a), some (vi (nI d)), none, none] []) 4 ?_ ?_
      · intro hno
        rw [deskF_no hno, if_pos rfl] at h'
        refine z_iload2 dX5_ahead_22 (z_iconst (v := 4) dX5_ahead_23 (by decide) (z_icmp_ge 113 dX5_ahead_24 (by decide) (fun _ => z_iconst (v := (-1)) dX5_ahead_113 (by decide) (z_ireturn dX5_ahead_114 rfl (by decide) (by decide) ?_)) (fun c => absurd (lpt (n := 4) rfl) c)))
        exact h'
      · intro d hd ih hno
        by_cases hs : σ 0 i = stAt (nI d)
        · refine z_iload2 dX5_ahead_22 (z_iconst (v := 4) dX5_ahead_23 (by decide) (z_icmp_ge 113 dX5_ahead_24 (by decide) (fun c => absurd c (lpf (n := 4) rfl hd (by decide))) (fun _ => z_aload0 dX5_ahead_27 (z_iload1 dX5_ahead_28 (z_iconst (v := 0) dX5_ahead_29 (by decide) (z_invV2 (md_X5_now _) cv_X5_434 rfl dX5_ahead_30 rfl (by decide) (Rm.ofB rfl) (M_nowv (w := 0) hM ei rfl (by omega) e0 (z_iload2 dX5_ahead_33 (z_invS1 (md_X5_stateAt _) cs_X5_450 dX5_ahead_34 rfl (by decide) (Rm.ofB rfl) (M_stateAt (z_icmp_eq 43 dX5_ahead_37 (by decide) (fun _ => ?_) (fun c => absurd (hs) c))))))))))))
          exact inner d hd hs
        · refine z_iload2 dX5_ahead_22 (z_iconst (v := 4) dX5_ahead_23 (by decide) (z_icmp_ge 113 dX5_ahead_24 (by decide) (fun c => absurd c (lpf (n := 4) rfl hd (by decide))) (fun _ => z_aload0 dX5_ahead_27 (z_iload1 dX5_ahead_28 (z_iconst (v := 0) dX5_ahead_29 (by decide) (z_invV2 (md_X5_now _) cv_X5_434 rfl dX5_ahead_30 rfl (by decide) (Rm.ofB rfl) (M_nowv (w := 0) hM ei rfl (by omega) e0 (z_iload2 dX5_ahead_33 (z_invS1 (md_X5_stateAt _) cs_X5_450 dX5_ahead_34 rfl (by decide) (Rm.ofB rfl) (M_stateAt (z_icmp_eq 43 dX5_ahead_37 (by decide) (fun c => absurd c (hs)) (fun _ => z_goto 107 dX5_ahead_40 (by decide) (z_iinc2 dX5_ahead_107 (inc1 d) (z_goto 22 dX5_ahead_110 (by decide) ?_))))))))))))))
          refine ih fun d' hd' => ?_
          rcases Nat.lt_or_ge d' d with q | q
          · exact hno d' q
          · rw [show d' = d by omega]; exact hs
    exact outer 0 (Nat.zero_le _) (fun d' hd' => absurd hd' (Nat.not_lt_zero _))
  · rw [if_pos h1] at h
    refine z_aload0 dX5_ahead_0 (z_iconst (v := 0) dX5_ahead_1 (by decide) (z_putI fl_X5_178 dX5_ahead_2 rfl rfl ⟨rfl, rfl⟩ (z_aload0 dX5_ahead_5 (z_aload0 dX5_ahead_6 (z_iload1 dX5_ahead_7 (z_invV1 (md_X5_noAsking _) cv_X5_431 rfl dX5_ahead_8 rfl (by decide) (Rm.ofB rfl) (M_noAskingT hR h1 (z_iconst (v := 1) dX5_ahead_11 (by decide) (z_invV2 (md_X5_throwsIf _) cv_X5_321 rfl dX5_ahead_12 rfl (by decide) (Rm.ofB rfl) (M_thrT (z_if_eq 20 dX5_ahead_15 (by decide) (fun c => absurd c (n10)) (fun _ => z_iconst (v := 0) dX5_ahead_18 (by decide) (z_ireturn dX5_ahead_19 rfl (by decide) (by decide) ?_)))))))))))))
    exact h _ hT.th (Fm.rf.sI.sI) (by simp [gI_sI])
end M11
