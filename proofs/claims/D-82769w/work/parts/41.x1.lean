/-! the Office: plain helpers -/
section X1
variable {np na nl nb ng w : Nat} {μ μ' : Mem} {σ : Sg} {Q : Res → Mem → Prop}
theorem X_far {p q : Nat} (hX : XP np na nl nb ng μ) (hR : RepX w σ μ) (hp : p < np) (hq : q < np) (h : Q (rI (farF σ p q)) μ) : Ct RX12 cX12_far (4, some .int, [], false, rmm 1 0 0) [vr 23 p, vr 23 q] μ Q := by
  refine Ct.of (ls := [some (vr 23 p), some (vr 23 q), none, none]) rfl fun Γ C ad => ?_
  refine z_iconst (v := 0) dX12_far_0 (by decide) (z_istore2 dX12_far_1 (z_iconst (v := 0) dX12_far_2 (by decide) (z_istore3 dX12_far_3 ?_)))
  show Z RX12 cX12_far (4, some .int, [], false, rmm 1 0 0) (Γ, C, μ, ad, Q) (0) (0) (μ) 4 [some (vr 23 p), some (vr 23 q), some (vi (farS σ p q 0)), some (vi (nI 0))] []
  refine loopN (P := fun k => Z RX12 cX12_far (4, some .int, [], false, rmm 1 0 0) (Γ, C, μ, ad, Q) (0) (0) (μ) 4 [some (vr 23 p), some (vr 23 q), some (vi (farS σ p q k)), some (vi (nI k))] []) 5 ?_ ?_ 0 (Nat.zero_le _)
  · refine z_iload3 dX12_far_4 (z_iconst (v := 5) dX12_far_5 (by decide) (z_icmp_ge 45 dX12_far_6 (by decide) (fun _ => z_iload2 dX12_far_45 (z_ireturn dX12_far_46 rfl (Nat.le_of_ble_eq_true rfl) (Nat.le_of_ble_eq_true rfl) ?_)) (fun c => absurd (by decide) c)))
    exact h
  · intro k hk ih
    refine z_iload3 dX12_far_4 (z_iconst (v := 5) dX12_far_5 (by decide) (z_icmp_ge 45 dX12_far_6 (by decide) (fun c => absurd c (lpf (n := 5) rfl hk (by decide))) (fun _ => z_iload2 dX12_far_9 (z_aload0 dX12_far_10 (z_getP fl_X12_19 dX12_far_11 rfl rfl (hX.fa hp) (z_iload3 dX12_far_14 (z_ialdv dX12_far_15 rfl ⟨rfl, hk, Nat.le_of_ble_eq_true rfl⟩ (hR.fc p k hk) (z_aload1 dX12_far_16 (z_getP fl_X12_19 dX12_far_17 rfl rfl (hX.fa hq) (z_iload3 dX12_far_20 (z_ialdv dX12_far_21 rfl ⟨rfl, hk, Nat.le_of_ble_eq_true rfl⟩ (hR.fc q k hk) (z_isub dX12_far_22 (z_aload0 dX12_far_23 (z_getP fl_X12_19 dX12_far_24 rfl rfl (hX.fa hp) (z_iload3 dX12_far_27 (z_ialdv dX12_far_28 rfl ⟨rfl, hk, Nat.le_of_ble_eq_true rfl⟩ (hR.fc p k hk) (z_aload1 dX12_far_29 (z_getP fl_X12_19 dX12_far_30 rfl rfl (hX.fa hq) (z_iload3 dX12_far_33 (z_ialdv dX12_far_34 rfl ⟨rfl, hk, Nat.le_of_ble_eq_true rfl⟩ (hR.fc q k hk) (z_isub dX12_far_35 (z_imul dX12_far_36 (z_iadd dX12_far_37 (z_istore2 dX12_far_38 (z_iinc3 dX12_far_39 (inc1 k) (z_goto 4 dX12_far_42 (by decide) ?_))))))))))))))))))))))))))
    exact ih
theorem X_lacks {a w' : Nat} (hX : XP np na nl nb ng μ) (hR : RepX w σ μ) (hw : w < 2) (ha : a < na) (h : Q (rI (lackF σ a)) μ) : Ct RX1 cX1_lacks (2, some .int, [], false, rmm 1 0 0) [vr 33 a, vr (34 + w) a] μ Q := by
  refine Ct.of (ls := [some (vr 33 a), some (vr (34 + w) a)]) rfl fun Γ C ad => ?_
  refine z_aload0 dX1_lacks_0 (z_getP fl_X1_222 dX1_lacks_1 rfl rfl (hX.ru ha) (z_getIv fl_X1_252 dX1_lacks_4 rfl rfl (hR.q 17 _ (by decide)) (z_aload1 dX1_lacks_7 (z_getIv fl_X1_274 dX1_lacks_8 (kdW hw) rfl (hR.q 23 _ (by decide)) (z_iconst (v := (-1)) dX1_lacks_11 (by decide) (z_ixor dX1_lacks_12 (z_iand dX1_lacks_13 (z_ireturn dX1_lacks_14 rfl (Nat.le_of_ble_eq_true rfl) (Nat.le_of_ble_eq_true rfl) ?_))))))))
  exact h
theorem X_deskOf {s : Int32} (h : Q (rI (deskF s)) μ) : Ct RX1 cX1_deskOf (1, some .int, [], false, rmm 1 0 0) [vi s] μ Q := by
  refine Ct.of (ls := [some (vi s)]) rfl fun Γ C ad => ?_
  unfold deskF at h
  refine z_iload0 dX1_deskOf_0 (z_if_ne 8 dX1_deskOf_1 (by decide) (fun c_1 => ?_) (fun c_1 => ?_))
  · rw [if_neg c_1] at h
    refine z_iload0 dX1_deskOf_8 (z_iconst (v := 2) dX1_deskOf_9 (by decide) (z_icmp_ne 17 dX1_deskOf_10 (by decide) (fun c_10 => ?_) (fun c_10 => ?_)))
    · rw [if_neg c_10] at h
      refine z_iload0 dX1_deskOf_17 (z_iconst (v := 4) dX1_deskOf_18 (by decide) (z_icmp_ne 26 dX1_deskOf_19 (by decide) (fun c_19 => ?_) (fun c_19 => ?_)))
      · rw [if_neg c_19] at h
        refine z_iload0 dX1_deskOf_26 (z_iconst (v := 5) dX1_deskOf_27 (by decide) (z_icmp_ne 35 dX1_deskOf_28 (by decide) (fun c_28 => ?_) (fun c_28 => ?_)))
        · rw [if_neg c_28] at h
          refine z_iconst (v := (-1)) dX1_deskOf_35 (by decide) (z_ireturn dX1_deskOf_36 rfl (Nat.le_of_ble_eq_true rfl) (Nat.le_of_ble_eq_true rfl) ?_)
          exact h
        · rw [if_pos c_28] at h
          refine z_iconst (v := 3) dX1_deskOf_31 (by decide) (z_goto 36 dX1_deskOf_32 (by decide) (z_ireturn dX1_deskOf_36 rfl (Nat.le_of_ble_eq_true rfl) (Nat.le_of_ble_eq_true rfl) ?_))
          exact h
      · rw [if_pos c_19] at h
        refine z_iconst (v := 2) dX1_deskOf_22 (by decide) (z_goto 36 dX1_deskOf_23 (by decide) (z_ireturn dX1_deskOf_36 rfl (Nat.le_of_ble_eq_true rfl) (Nat.le_of_ble_eq_true rfl) ?_))
        exact h
    · rw [if_pos c_10] at h
      refine z_iconst (v := 1) dX1_deskOf_13 (by decide) (z_goto 36 dX1_deskOf_14 (by decide) (z_ireturn dX1_deskOf_36 rfl (Nat.le_of_ble_eq_true rfl) (Nat.le_of_ble_eq_true rfl) ?_))
      exact h
  · rw [if_pos c_1] at h
    refine z_iconst (v := 0) dX1_deskOf_4 (by decide) (z_goto 36 dX1_deskOf_5 (by decide) (z_ireturn dX1_deskOf_36 rfl (Nat.le_of_ble_eq_true rfl) (Nat.le_of_ble_eq_true rfl) ?_))
    exact h
theorem X_tick {a : Nat} (hR : RepX w σ μ) (hw : w < 2) (h : Q (rI (bI (tickB σ a))) μ) : Ct RX1 cX1_hasTicket (1, some .boolean, [], false, rmm 1 0 0) [vr (34 + w) a] μ Q := by
  refine Ct.of (ls := [some (vr (34 + w) a)]) rfl fun Γ C ad => ?_
  refine z_aload0 dX1_hasTicket_0 (z_getIv fl_X1_274 dX1_hasTicket_1 (kdW hw) rfl (hR.q 23 _ (by decide)) (z_bipush (v := 6) dX1_hasTicket_4 (by decide) (z_ishr dX1_hasTicket_6 (z_iconst (v := 1) dX1_hasTicket_7 (by decide) (z_iand dX1_hasTicket_8 (z_iconst (v := 1) dX1_hasTicket_9 (by decide) (z_icmp_ne 17 dX1_hasTicket_10 (by decide) (fun c_10 => ?_) (fun c_10 => ?_))))))))
  · refine z_iconst (v := 0) dX1_hasTicket_17 (by decide) (z_zreturn dX1_hasTicket_18 rfl rfl (Nat.le_of_ble_eq_true rfl) (Nat.le_of_ble_eq_true rfl) ?_)
    exact hbf h (by rw [tickB]; exact decide_eq_false c_10)
  · refine z_iconst (v := 1) dX1_hasTicket_13 (by decide) (z_goto 18 dX1_hasTicket_14 (by decide) (z_zreturn dX1_hasTicket_18 rfl rfl (Nat.le_of_ble_eq_true rfl) (Nat.le_of_ble_eq_true rfl) ?_))
    exact hbt h (by rw [tickB]; exact decide_eq_true c_10)
theorem X_isAhead {a b : Nat} {x y r : Int32} (hX : XP np na nl nb ng μ) (hv : XMv w na μ) (hR : RepX w σ μ) (hw : w < 2) (ha : a < na) (hb : b < na) (hn : na ≤ 120) (hx : x = nI a) (hy : y = nI b) (hr : r = 0 ∨ r = 1 ∨ r = 2) (hu : ∀ a, a < na → σ 16 a = 0 ∨ σ 16 a = 1) (h : Q (rI (bI (aheadB σ r a b))) μ) : Ct RX1 cX1_isAhead (10, some .boolean, [], false, rmm 2 0 0) [vr 1 0, vr 4 w, vi x, vi y, vi r] μ Q := by
  refine Ct.of (ls := [some (vr 1 0), some (vr 4 w), some (vi x), some (vi y), some (vi r), none, none, none, none, none]) rfl fun Γ C ad => ?_
  subst hx hy
  have nar : ∀ {c : Nat}, c < na → narrow .boolean (.int (σ 16 c)) = .int (σ 16 c) := fun hc => by rcases hu _ hc with q | q <;> rw [q] <;> rfl
  have tl : ∀ {m n : Int32} {t : Int32}, aheadB σ r a b = decide (m < n ∨ m = n ∧ a < b) → Z RX1 cX1_isAhead (10, some .boolean, [], false, rmm 2 0 0) (Γ, C, μ, ad, Q) (0) (0) (μ) 107 [some (vr 1 0), some (vr 4 w), some (vi (nI a)), some (vi (nI b)), some (vi r), some (vr 33 a), some (vr 33 b), some (vi t), some (vi m), none] [vi n] := by
    intro m n t e
    rw [e] at h
    refine z_istore9 dX1_isAhead_107 (z_iload8 dX1_isAhead_109 (z_iload9 dX1_isAhead_111 (z_icmp_lt 128 dX1_isAhead_113 (by decide) (fun c_113 => ?_) (fun c_113 => ?_))))
    · refine z_iconst (v := 1) dX1_isAhead_128 (by decide) (z_goto 133 dX1_isAhead_129 (by decide) (z_zreturn dX1_isAhead_133 rfl rfl (Nat.le_of_ble_eq_true rfl) (Nat.le_of_ble_eq_true rfl) ?_))
      exact hbt h (by simp; exact Or.inl c_113)
    · refine z_iload8 dX1_isAhead_116 (z_iload9 dX1_isAhead_118 (z_icmp_ne 132 dX1_isAhead_120 (by decide) (fun c_120 => ?_) (fun c_120 => ?_)))
      · refine z_iconst (v := 0) dX1_isAhead_132 (by decide) (z_zreturn dX1_isAhead_133 rfl rfl (Nat.le_of_ble_eq_true rfl) (Nat.le_of_ble_eq_true rfl) ?_)
        exact hbf h (by simp; exact ⟨Int32.not_lt.mp c_113, fun q => absurd q c_120⟩)
      · refine z_iload2 dX1_isAhead_123 (z_iload3 dX1_isAhead_124 (z_icmp_ge 132 dX1_isAhead_125 (by decide) (fun c_125 => ?_) (fun c_125 => ?_)))
        · refine z_iconst (v := 0) dX1_isAhead_132 (by decide) (z_zreturn dX1_isAhead_133 rfl rfl (Nat.le_of_ble_eq_true rfl) (Nat.le_of_ble_eq_true rfl) ?_)
          exact hbf h (by simp; exact ⟨Int32.not_lt.mp c_113, fun _ => (nI_leI (by omega) (by omega)).mp c_125⟩)
        · refine z_iconst (v := 1) dX1_isAhead_128 (by decide) (z_goto 133 dX1_isAhead_129 (by decide) (z_zreturn dX1_isAhead_133 rfl rfl (Nat.le_of_ble_eq_true rfl) (Nat.le_of_ble_eq_true rfl) ?_))
          exact hbt h (by simp; exact Or.inr ⟨c_120, Nat.not_le.mp fun q => c_125 ((nI_leI (by omega) (by omega)).mpr q)⟩)
  have mid : ∀ {t : Int32}, ¬ σ 16 a ≠ σ 16 b → ¬ (r = 2 ∧ tickB σ a ≠ tickB σ b) → Z RX1 cX1_isAhead (10, some .boolean, [], false, rmm 2 0 0) (Γ, C, μ, ad, Q) (0) (0) (μ) 69 [some (vr 1 0), some (vr 4 w), some (vi (nI a)), some (vi (nI b)), some (vi r), some (vr 33 a), some (vr 33 b), some (vi t), none, none] [] := by
    intro t e1 e2
    by_cases h0 : r = 0
    · refine z_iload4 dX1_isAhead_69 (z_if_ne 82 dX1_isAhead_71 (by decide) (fun c => absurd (h0) c) (fun _ => z_aload5 dX1_isAhead_74 (z_getIv fl_X1_311 dX1_isAhead_76 rfl rfl (hR.q 14 _ (by decide)) (z_goto 87 dX1_isAhead_79 (by decide) (z_istore8 dX1_isAhead_87 (z_iload4 dX1_isAhead_89 (z_if_ne 102 dX1_isAhead_91 (by decide) (fun c => absurd (h0) c) (fun _ => z_aload6 dX1_isAhead_94 (z_getIv fl_X1_311 dX1_isAhead_96 rfl rfl (hR.q 14 _ (by decide)) (z_goto 107 dX1_isAhead_99 (by decide) ?_))))))))))
      refine tl ?_
      rw [aheadB, if_neg e1]
      by_cases e : σ 14 a = σ 14 b
      · rw [if_neg (fun q => q.2 e), if_neg e2, if_neg (fun q => by rw [h0] at q; exact absurd q.1 (by decide)), e]
        exact decide_eq_decide.mpr ⟨fun q => Or.inr ⟨rfl, q⟩, fun q => q.elim (fun q => absurd q (Int32.lt_irrefl)) (fun q => q.2)⟩
      · rw [if_pos ⟨h0, e⟩]
        exact decide_eq_decide.mpr ⟨fun q => Or.inl q, fun q => q.elim id (fun q => absurd q.1 e)⟩
    · refine z_iload4 dX1_isAhead_69 (z_if_ne 82 dX1_isAhead_71 (by decide) (fun _ => z_aload5 dX1_isAhead_82 (z_getIv fl_X1_314 dX1_isAhead_84 rfl rfl (hR.q 15 _ (by decide)) (z_istore8 dX1_isAhead_87 (z_iload4 dX1_isAhead_89 (z_if_ne 102 dX1_isAhead_91 (by decide) (fun _ => z_aload6 dX1_isAhead_102 (z_getIv fl_X1_314 dX1_isAhead_104 rfl rfl (hR.q 15 _ (by decide)) ?_)) (fun c => absurd c (h0))))))) (fun c => absurd c (h0)))
      refine tl ?_
      rw [aheadB, if_neg e1, if_neg (fun q => h0 q.1), if_neg e2]
      have hr0 : 0 < r := by rcases hr with q | q | q <;> rw [q] at h0 ⊢ <;> first | exact absurd rfl h0 | decide
      by_cases e : σ 15 a = σ 15 b
      · rw [if_neg (fun q => q.2 e), e]
        exact decide_eq_decide.mpr ⟨fun q => Or.inr ⟨rfl, q⟩, fun q => q.elim (fun q => absurd q (Int32.lt_irrefl)) (fun q => q.2)⟩
      · rw [if_pos ⟨hr0, e⟩]
        exact decide_eq_decide.mpr ⟨fun q => Or.inl q, fun q => q.elim id (fun q => absurd q.1 e)⟩
  refine z_aload0 dX1_isAhead_0 (z_getP fl_X1_35 dX1_isAhead_1 rfl rfl (hX.f1 4 (by decide)) (z_iload2 dX1_isAhead_4 (z_aald dX1_isAhead_5 rfl (by decide) rfl ⟨rfl, Nat.lt_of_lt_of_le ha hn, Nat.le_of_ble_eq_true rfl⟩ (hX.as ha) (z_astore5 dX1_isAhead_6 (z_aload0 dX1_isAhead_8 (z_getP fl_X1_35 dX1_isAhead_9 rfl rfl (hX.f1 4 (by decide)) (z_iload3 dX1_isAhead_12 (z_aald dX1_isAhead_13 rfl (by decide) rfl ⟨rfl, Nat.lt_of_lt_of_le hb hn, Nat.le_of_ble_eq_true rfl⟩ (hX.as hb) (z_astore6 dX1_isAhead_14 (z_aload5 dX1_isAhead_16 (z_getIv fl_X1_356 dX1_isAhead_18 rfl rfl (hR.q 16 _ (by decide)) (z_aload6 dX1_isAhead_21 (z_getIv fl_X1_356 dX1_isAhead_23 rfl rfl (hR.q 16 _ (by decide)) (z_icmp_eq 35 dX1_isAhead_26 (by decide) (fun c_26 => ?_) (fun c_26 => ?_)))))))))))))))
  · have e1 : ¬ σ 16 a ≠ σ 16 b := fun q => q c_26
    refine z_aload1 dX1_isAhead_35 (z_getP fl_X1_232 dX1_isAhead_36 rfl rfl (hX.f4 _ hw) (z_iload2 dX1_isAhead_39 (z_aald dX1_isAhead_40 rfl (by decide) rfl ⟨rfl, Nat.lt_of_lt_of_le ha hn, Nat.le_of_ble_eq_true rfl⟩ (hv _ ha) (z_invS1 (md_X1_hasTicket _) cs_X1_359 dX1_isAhead_41 rfl (Nat.le_of_ble_eq_true rfl) (Rm.ofB rfl) (X_tick hR hw (z_istore7 dX1_isAhead_44 (z_iload4 dX1_isAhead_46 (z_iconst (v := 2) dX1_isAhead_48 (by decide) (z_icmp_ne 69 dX1_isAhead_49 (by decide) (fun c_49 => ?_) (fun c_49 => ?_))))))))))
    · exact mid e1 fun q => c_49 q.1
    · refine z_iload7 dX1_isAhead_52 (z_aload1 dX1_isAhead_54 (z_getP fl_X1_232 dX1_isAhead_55 rfl rfl (hX.f4 _ hw) (z_iload3 dX1_isAhead_58 (z_aald dX1_isAhead_59 rfl (by decide) rfl ⟨rfl, Nat.lt_of_lt_of_le hb hn, Nat.le_of_ble_eq_true rfl⟩ (hv _ hb) (z_invS1 (md_X1_hasTicket _) cs_X1_359 dX1_isAhead_60 rfl (Nat.le_of_ble_eq_true rfl) (Rm.ofB rfl) (X_tick hR hw (z_icmp_eq 69 dX1_isAhead_63 (by decide) (fun c_63 => ?_) (fun c_63 => ?_))))))))
      · exact mid e1 fun q => q.2 (bI_ne.mp c_63)
      · refine z_iload7 dX1_isAhead_66 (z_zreturn dX1_isAhead_68 rfl (bI_nar _) (Nat.le_of_ble_eq_true rfl) (Nat.le_of_ble_eq_true rfl) ?_)
        rw [aheadB, if_neg e1, if_neg (fun q => by rw [q.1] at c_49; exact absurd c_49 (by decide)), if_pos ⟨c_49, fun q => c_63 (by rw [q])⟩] at h
        exact h
  · rw [aheadB, if_pos c_26] at h
    refine z_aload5 dX1_isAhead_29 (z_getIv fl_X1_356 dX1_isAhead_31 rfl rfl (hR.q 16 _ (by decide)) (z_zreturn dX1_isAhead_34 rfl (nar ha) (Nat.le_of_ble_eq_true rfl) (Nat.le_of_ble_eq_true rfl) ?_))
    rcases hu a ha with q | q
    · rw [q] at h ⊢; exact h
    · rw [q] at h ⊢; exact h
end X1
