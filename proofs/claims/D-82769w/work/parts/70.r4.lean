/-! the Reader: numbers -/
section R4
variable {μ μ' : Mem} {Q : Res → Mem → Prop} {T : Nat → Int32} {e a b : Nat}
theorem X_number (hr : RX T e a μ) (h1 : ∀ q v μ', numP T e a = .inr (q, v) → RX T e q μ' → Dif S29 μ μ' → Q (rI v) μ') (h2 : ∀ x μ', numP T e a = .inl x → Dif S3 μ μ' → gI μ' 3 0 6 = nI x → Q (rX 3 0) μ') : Ct RX2 cX2_number (4, some .int, [], false, rmm 2 0 0) [vr 2 0] μ Q := by
  refine Ct.of (ls := [some (vr 2 0), none, none, none]) rfl fun Γ C ad => ?_
  unfold numP at h1 h2
  refine z_aload0 dX2_number_0 (z_invV0 (md_X2_sign _) cv_X2_99 rfl dX2_number_1 rfl (Nat.le_of_ble_eq_true rfl) (Rm.ofB rfl) (X_sign hr (fun μ1 hr1 hD1 => ?_)))
  generalize hbb : skB T e a = b at *
  generalize hs : sgF T e b = s at *
  have hbe := hr1.2.2.2.1
  have d1 : b ≤ dgE T e b := skE_ge _ _ _ _
  have d2 : dgE T e b ≤ e := skE_le hbe
  generalize hD : dgE T e b = D at *
  have bad : (D = b ∨ 4 < D - b) → ∀ μ', Dif S29 μ μ' → Q (rX 3 0) (sI μ' 3 0 6 (nI b)) := by
    intro q μ' hd
    rw [if_pos q] at h2
    exact h2 b _ rfl (hd.s3.tr (Dif.sI (Or.inr ⟨rfl, rfl, rfl⟩))) (by rw [gI_sI, if_pos ⟨rfl, rfl, rfl⟩])
  have key : ∀ m c μ', e - c = m → b ≤ c → c - b ≤ 4 → dgE T e c = D → RX T e c μ' → Dif S29 μ μ' → Z RX2 cX2_number (4, some .int, [], false, rmm 2 0 0) (Γ, C, μ, ad, Q) (0) (0) (μ') 12 [some (vr 2 0), some (vi s), some (vi (nI b)), some (vi (numV T b (c - b)))] [] := by
    have done : ∀ μ', D - b ≤ 4 → RX T e D μ' → Dif S29 μ μ' → Z RX2 cX2_number (4, some .int, [], false, rmm 2 0 0) (Γ, C, μ, ad, Q) (0) (0) (μ') 97 [some (vr 2 0), some (vi s), some (vi (nI b)), some (vi (numV T b (D - b)))] [] := by
      intro μ' h4 hr' hd
      have hX := hr'.1
      have h9 := hr'.2.2.1
      have he := hr'.2.2.2.2.1
      by_cases hz : D = b
      · refine z_aload0 dX2_number_97 (z_getIv fl_X2_93 dX2_number_98 rfl rfl (h9) (z_iload2 dX2_number_101 (z_icmp_ne 110 dX2_number_102 (by decide) (fun c => absurd ((by rw [hz])) c) (fun _ => z_aload0 dX2_number_105 (z_iload2 dX2_number_106 (z_invV1 (md_X2_fail _) cv_X2_114 rfl dX2_number_107 rfl (Nat.le_of_ble_eq_true rfl) (Rm.ofB rfl) (X_fail hX ?_)))))))
        exact ⟨rfl, bad (Or.inl hz) μ' hd⟩
      · rw [if_neg (by omega)] at h1
        refine z_aload0 dX2_number_97 (z_getIv fl_X2_93 dX2_number_98 rfl rfl (h9) (z_iload2 dX2_number_101 (z_icmp_ne 110 dX2_number_102 (by decide) (fun _ => z_iload3 dX2_number_110 (z_ireturn dX2_number_111 rfl (Nat.le_of_ble_eq_true rfl) (Nat.le_of_ble_eq_true rfl) ?_)) (fun c => absurd c ((fun q => hz ((nI_eq (by omega) (by omega)).mp q)))))))
        exact h1 _ _ μ' rfl hr' hd
    intro m
    induction m with
    | zero =>
      intro c μ' hm hbc h4 hdc hr' hd
      have h8 := hr'.2.1
      have h9 := hr'.2.2.1
      have hce := hr'.2.2.2.1
      have hX := hr'.1
      have ec : c = e := by omega
      have : dgE T e c = c := skE_f (fun q => by omega)
      rw [this] at hdc
      subst hdc
      refine z_aload0 dX2_number_12 (z_getIv fl_X2_93 dX2_number_13 rfl rfl (h9) (z_aload0 dX2_number_16 (z_getIv fl_X2_96 dX2_number_17 rfl rfl (h8) (z_icmp_ge 97 dX2_number_20 (by decide) (fun _ => ?_) (fun c => absurd ((by rw [ec]; exact Int32.le_refl _)) c)))))
      exact done μ' h4 hr' hd
    | succ m ih =>
      intro c μ' hm hbc h4 hdc hr' hd
      have hr0 := hr'
      obtain ⟨hX, h8, h9, hce, he, hT⟩ := hr'
      have hlt : c < e := by omega
      have nge : ¬ nI e ≤ nI c := nI_ge hlt (by omega)
      have c400 : c < 400 := by omega
      by_cases hc : 48 ≤ T c ∧ T c ≤ 57
      · have es : dgE T e c = dgE T e (c + 1) := skE_t hlt (decide_eq_true hc)
        have hge : c + 1 ≤ D := by rw [← hdc, es]; exact skE_ge _ _ _ _
        rw [es] at hdc
        have esub : nI c - nI b = nI (c - b) := by
          have : c = (c - b) + b := by omega
          rw [this, ← nI_add, Int32.add_sub_cancel, show c - b + b - b = c - b by omega]
        by_cases h5 : c - b = 4
        · refine z_aload0 dX2_number_12 (z_getIv fl_X2_93 dX2_number_13 rfl rfl (h9) (z_aload0 dX2_number_16 (z_getIv fl_X2_96 dX2_number_17 rfl rfl (h8) (z_icmp_ge 97 dX2_number_20 (by decide) (fun c => absurd c (nge)) (fun _ => z_aload0 dX2_number_23 (z_getP fl_X2_9 dX2_number_24 rfl rfl (hX.f2 0 (by decide)) (z_aload0 dX2_number_27 (z_getIv fl_X2_93 dX2_number_28 rfl rfl (h9) (z_baldv dX2_number_31 rfl ⟨rfl, c400, Nat.le_of_ble_eq_true rfl⟩ ((hT c c400).1) (z_bipush (v := 48) dX2_number_32 (by decide) (z_icmp_lt 97 dX2_number_34 (by decide) (fun c => absurd c (Int32.not_lt.mpr hc.1)) (fun _ => z_aload0 dX2_number_37 (z_getP fl_X2_9 dX2_number_38 rfl rfl (hX.f2 0 (by decide)) (z_aload0 dX2_number_41 (z_getIv fl_X2_93 dX2_number_42 rfl rfl (h9) (z_baldv dX2_number_45 rfl ⟨rfl, c400, Nat.le_of_ble_eq_true rfl⟩ ((hT c c400).1) (z_bipush (v := 57) dX2_number_46 (by decide) (z_icmp_gt 97 dX2_number_48 (by decide) (fun c => absurd c (Int32.not_lt.mpr hc.2)) (fun _ => z_aload0 dX2_number_51 (z_getIv fl_X2_93 dX2_number_52 rfl rfl (h9) (z_iload2 dX2_number_55 (z_isub dX2_number_56 (z_iconst (v := 4) dX2_number_57 (by decide) (z_icmp_ne 66 dX2_number_58 (by decide) (fun c => absurd ((by rw [esub, h5]; rfl)) c) (fun _ => z_aload0 dX2_number_61 (z_iload2 dX2_number_62 (z_invV1 (md_X2_fail _) cv_X2_114 rfl dX2_number_63 rfl (Nat.le_of_ble_eq_true rfl) (Rm.ofB rfl) (X_fail hX ?_))))))))))))))))))))))))))))
          exact ⟨rfl, bad (Or.inr (by omega)) μ' hd⟩
        · have n4 : ¬ nI c - nI b = 4 := fun q => h5 ((nI_eq (b := 4) (by omega) (by decide)).mp (esub.symm.trans q))
          have := ih (c + 1) (sI μ' 2 0 9 (nI (c + 1))) (by omega) (by omega) (by omega) hdc (hr0.at (by omega)) (hd.tr (Dif.sI ⟨rfl, rfl, rfl⟩))
          rw [show c + 1 - b = (c - b) + 1 by omega, numV, show b + (c - b) = c by omega, ← nI_1] at this
          refine z_aload0 dX2_number_12 (z_getIv fl_X2_93 dX2_number_13 rfl rfl (h9) (z_aload0 dX2_number_16 (z_getIv fl_X2_96 dX2_number_17 rfl rfl (h8) (z_icmp_ge 97 dX2_number_20 (by decide) (fun c => absurd c (nge)) (fun _ => z_aload0 dX2_number_23 (z_getP fl_X2_9 dX2_number_24 rfl rfl (hX.f2 0 (by decide)) (z_aload0 dX2_number_27 (z_getIv fl_X2_93 dX2_number_28 rfl rfl (h9) (z_baldv dX2_number_31 rfl ⟨rfl, c400, Nat.le_of_ble_eq_true rfl⟩ ((hT c c400).1) (z_bipush (v := 48) dX2_number_32 (by decide) (z_icmp_lt 97 dX2_number_34 (by decide) (fun c => absurd c (Int32.not_lt.mpr hc.1)) (fun _ => z_aload0 dX2_number_37 (z_getP fl_X2_9 dX2_number_38 rfl rfl (hX.f2 0 (by decide)) (z_aload0 dX2_number_41 (z_getIv fl_X2_93 dX2_number_42 rfl rfl (h9) (z_baldv dX2_number_45 rfl ⟨rfl, c400, Nat.le_of_ble_eq_true rfl⟩ ((hT c c400).1) (z_bipush (v := 57) dX2_number_46 (by decide) (z_icmp_gt 97 dX2_number_48 (by decide) (fun c => absurd c (Int32.not_lt.mpr hc.2)) (fun _ => z_aload0 dX2_number_51 (z_getIv fl_X2_93 dX2_number_52 rfl rfl (h9) (z_iload2 dX2_number_55 (z_isub dX2_number_56 (z_iconst (v := 4) dX2_number_57 (by decide) (z_icmp_ne 66 dX2_number_58 (by decide) (fun _ => z_bipush (v := 10) dX2_number_66 (by decide) (z_iload3 dX2_number_68 (z_imul dX2_number_69 (z_aload0 dX2_number_70 (z_getP fl_X2_9 dX2_number_71 rfl rfl (hX.f2 0 (by decide)) (z_aload0 dX2_number_74 (z_getIv fl_X2_93 dX2_number_75 rfl rfl (h9) (z_baldv dX2_number_78 rfl ⟨rfl, c400, Nat.le_of_ble_eq_true rfl⟩ ((hT c c400).1) (z_iadd dX2_number_79 (z_bipush (v := 48) dX2_number_80 (by decide) (z_isub dX2_number_82 (z_istore3 dX2_number_83 (z_aload0 dX2_number_84 (z_dupa dX2_number_85 (z_getIv fl_X2_93 dX2_number_86 rfl rfl (h9) (z_iconst (v := 1) dX2_number_89 (by decide) (z_iadd dX2_number_90 (z_putI fl_X2_93 dX2_number_91 rfl rfl ⟨rfl, rfl⟩ (z_goto 12 dX2_number_94 (by decide) ?_))))))))))))))))))) (fun c => absurd c (n4))))))))))))))))))))))))))
          exact this
      · have es : dgE T e c = c := skE_f (fun q => hc (of_decide_eq_true q.2))
        rw [es] at hdc
        subst hdc
        by_cases hc1 : T c < 48
        · refine z_aload0 dX2_number_12 (z_getIv fl_X2_93 dX2_number_13 rfl rfl (h9) (z_aload0 dX2_number_16 (z_getIv fl_X2_96 dX2_number_17 rfl rfl (h8) (z_icmp_ge 97 dX2_number_20 (by decide) (fun c => absurd c (nge)) (fun _ => z_aload0 dX2_number_23 (z_getP fl_X2_9 dX2_number_24 rfl rfl (hX.f2 0 (by decide)) (z_aload0 dX2_number_27 (z_getIv fl_X2_93 dX2_number_28 rfl rfl (h9) (z_baldv dX2_number_31 rfl ⟨rfl, c400, Nat.le_of_ble_eq_true rfl⟩ ((hT c c400).1) (z_bipush (v := 48) dX2_number_32 (by decide) (z_icmp_lt 97 dX2_number_34 (by decide) (fun _ => ?_) (fun c => absurd (hc1) c))))))))))))
          exact done μ' h4 hr0 hd
        · refine z_aload0 dX2_number_12 (z_getIv fl_X2_93 dX2_number_13 rfl rfl (h9) (z_aload0 dX2_number_16 (z_getIv fl_X2_96 dX2_number_17 rfl rfl (h8) (z_icmp_ge 97 dX2_number_20 (by decide) (fun c => absurd c (nge)) (fun _ => z_aload0 dX2_number_23 (z_getP fl_X2_9 dX2_number_24 rfl rfl (hX.f2 0 (by decide)) (z_aload0 dX2_number_27 (z_getIv fl_X2_93 dX2_number_28 rfl rfl (h9) (z_baldv dX2_number_31 rfl ⟨rfl, c400, Nat.le_of_ble_eq_true rfl⟩ ((hT c c400).1) (z_bipush (v := 48) dX2_number_32 (by decide) (z_icmp_lt 97 dX2_number_34 (by decide) (fun c => absurd c (hc1)) (fun _ => z_aload0 dX2_number_37 (z_getP fl_X2_9 dX2_number_38 rfl rfl (hX.f2 0 (by decide)) (z_aload0 dX2_number_41 (z_getIv fl_X2_93 dX2_number_42 rfl rfl (h9) (z_baldv dX2_number_45 rfl ⟨rfl, c400, Nat.le_of_ble_eq_true rfl⟩ ((hT c c400).1) (z_bipush (v := 57) dX2_number_46 (by decide) (z_icmp_gt 97 dX2_number_48 (by decide) (fun _ => ?_) (fun c => absurd (Int32.not_le.mp (fun q => hc ⟨Int32.not_lt.mp hc1, q⟩)) c)))))))))))))))))))
          exact done μ' h4 hr0 hd
  have hX1 := hr1.1
  have h91 := hr1.2.2.1
  refine z_istore1 dX2_number_4 (z_aload0 dX2_number_5 (z_getIv fl_X2_93 dX2_number_6 rfl rfl (h91) (z_istore2 dX2_number_9 (z_iconst (v := 0) dX2_number_10 (by decide) (z_istore3 dX2_number_11 ?_)))))
  have := key _ b μ1 rfl (Nat.le_refl _) (by omega) hD hr1 hD1
  rw [Nat.sub_self] at this
  exact this
end R4
