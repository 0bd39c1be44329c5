/-! the Office: the calls from outside, more -/
section O2
variable {μ μ' : Mem} {σ : Sg} {Λ : Lws} {Q : Res → Mem → Prop}
theorem X_itemsT {x : Int32} (hc : 0 ≤ x ∧ x ≤ 255) (h : Q rV μ) : Ct RX1 cX1_isItems (1, none, [], false, rmm 7 1 6) [vi x] μ Q := by
  refine Ct.of (ls := [some (vi x)]) rfl fun Γ C ad => ?_
  refine z_iload0 dX1_isItems_0 (z_iconst (v := 0) dX1_isItems_1 (by decide) (z_sipush (v := 255) dX1_isItems_2 (by decide) (z_invS3 (md_X1_isIn _) cs_X1_114 dX1_isItems_5 rfl (Nat.le_of_ble_eq_true rfl) (Rm.ofB rfl) (X_inT hc (z_invS1 (md_X1_must _) cs_X1_143 dX1_isItems_8 rfl (Nat.le_of_ble_eq_true rfl) (Rm.ofB rfl) (X_mustT (z_return dX1_isItems_11 rfl (Nat.le_of_ble_eq_true rfl) (Nat.le_of_ble_eq_true rfl) ?_)))))))
  exact h
theorem X_itemsF {x : Int32} (hc : ¬ (0 ≤ x ∧ x ≤ 255)) (h : ∀ μ' i, FX SE TE μ μ' → Q (rX 38 i) μ') : Ct RX1 cX1_isItems (1, none, [], false, rmm 7 1 6) [vi x] μ Q := by
  refine Ct.of (ls := [some (vi x)]) rfl fun Γ C ad => ?_
  refine z_iload0 dX1_isItems_0 (z_iconst (v := 0) dX1_isItems_1 (by decide) (z_sipush (v := 255) dX1_isItems_2 (by decide) (z_invS3 (md_X1_isIn _) cs_X1_114 dX1_isItems_5 rfl (Nat.le_of_ble_eq_true rfl) (Rm.ofB rfl) (X_inF hc (z_invS1 (md_X1_must _) cs_X1_143 dX1_isItems_8 rfl (Nat.le_of_ble_eq_true rfl) (Rm.ofB rfl) (X_mustF ?_))))))
  exact fun μ' i q => ⟨rfl, h μ' i q⟩
theorem O_give {a x : Int32} (hI : TX σ Λ μ) (hC : CT σ) (h : ∀ r μ', TX (pGive σ a x).1 Λ μ' → Fx μ μ' → XR [40, 38, 42] (pGive σ a x).2.1 (rI (pGive σ a x).2.2) r → Q r μ') : Ct RX1 cX1_give (5, some .int, [], false, rmm 8 3 18) [vr 1 0, vi a, vi x] μ Q := by
  refine Ct.of (ls := [some (vr 1 0), some (vi a), some (vi x), none, none]) rfl fun Γ C ad => ?_
  have hX := hI.1
  have hR := hI.2.1
  have na := hC.na
  unfold pGive at h
  by_cases h1 : isA σ a
  · rw [if_neg (nn h1)] at h
    obtain ⟨j, hj, e⟩ := hC.isA h1
    have ej : tn a = j := by rw [e, tn_nI (by omega)]
    rw [ej] at h
    by_cases h2 : 0 ≤ x ∧ x ≤ 255
    · rw [if_neg (nn h2)] at h
      refine z_aload0 dX1_give_0 (z_iload1 dX1_give_1 (z_invV1 (md_X1_askingAt _) cv_X1_283 rfl dX1_give_2 rfl (Nat.le_of_ble_eq_true rfl) (Rm.ofB rfl) (X_askingT hX hR h1 e hj na (z_astore3 dX1_give_5 (z_iload2 dX1_give_6 (z_invS1 (md_X1_isItems _) cs_X1_267 dX1_give_7 rfl (Nat.le_of_ble_eq_true rfl) (Rm.ofB rfl) (X_itemsT h2 (z_aload0 dX1_give_10 (z_getP fl_X1_42 dX1_give_11 rfl rfl (hX.f1 5 (by decide)) (z_getP fl_X1_232 dX1_give_14 rfl rfl (hX.f4 _ (by decide)) (z_iload1 dX1_give_17 (z_aald dX1_give_18 rfl (by decide) rfl ⟨e, (show j < 120 by omega), Nat.le_of_ble_eq_true rfl⟩ (hX.mo hj) (z_astore4 dX1_give_19 (z_aload4 dX1_give_21 (z_getIv fl_X1_236 dX1_give_23 rfl rfl (hR.q 0 _ (by decide)) (z_iconst (v := 1) dX1_give_26 (by decide) (z_icmp_ne 34 dX1_give_27 (by decide) (fun c_27 => ?_) (fun c_27 => ?_))))))))))))))))))
      · rw [if_pos c_27] at h
        refine z_iconst (v := 0) dX1_give_34 (by decide) (z_invS1 (md_X1_may _) cs_X1_287 dX1_give_35 rfl (Nat.le_of_ble_eq_true rfl) (Rm.ofB rfl) (X_mayF ?_))
        exact fun μ' i q => ⟨rfl, h _ _ (hI.exc q) (Fx.exc q) XR.e3⟩
      · rw [if_neg (nn c_27)] at h
        dsimp only at h
        have hT := hI.st 23 j (σ 23 j ||| x) (by unfold nct; omega)
        have hR1 : RepX 0 (up2 σ 23 j (σ 23 j ||| x)) (sI μ 34 j 1 (σ 23 j ||| x)) := hT.2.1
        by_cases h3 : lackF (up2 σ 23 j (σ 23 j ||| x)) j = 0
        · rw [if_pos h3] at h
          have hT2 := hT.st 0 j 0 (by unfold nct; omega)
          refine z_iconst (v := 1) dX1_give_30 (by decide) (z_goto 35 dX1_give_31 (by decide) (z_invS1 (md_X1_may _) cs_X1_287 dX1_give_35 rfl (Nat.le_of_ble_eq_true rfl) (Rm.ofB rfl) (X_mayT (z_aload4 dX1_give_38 (z_dupa dX1_give_40 (z_getIv fl_X1_274 dX1_give_41 rfl rfl (hR.q 23 j (by decide)) (z_iload2 dX1_give_44 (z_ior dX1_give_45 (z_putI fl_X1_274 dX1_give_46 rfl rfl ⟨rfl, rfl⟩ (z_aload3 dX1_give_49 (z_aload4 dX1_give_50 (z_invS2 (md_X1_lacks _) cs_X1_290 dX1_give_52 rfl (Nat.le_of_ble_eq_true rfl) (Rm.ofB rfl) (X_lacks (w := 0) (w' := 0) (hX.of (μ' := sI μ 34 j 1 (σ 23 j ||| x)) rfl) hR1 (by decide) hj (z_if_ne 64 dX1_give_55 (by decide) (fun c => absurd (h3) c) (fun _ => z_aload4 dX1_give_58 (z_iconst (v := 0) dX1_give_60 (by decide) (z_putI fl_X1_236 dX1_give_61 rfl rfl ⟨rfl, rfl⟩ (z_aload3 dX1_give_64 (z_aload4 dX1_give_65 (z_invS2 (md_X1_lacks _) cs_X1_290 dX1_give_67 rfl (Nat.le_of_ble_eq_true rfl) (Rm.ofB rfl) (X_lacks (w := 0) (w' := 0) (hX.of (μ' := sI (sI μ 34 j 1 (σ 23 j ||| x)) 34 j 0 0) rfl) hT2.2.1 (by decide) hj (z_ireturn dX1_give_70 rfl (Nat.le_of_ble_eq_true rfl) (Nat.le_of_ble_eq_true rfl) ?_))))))))))))))))))))))
          exact h _ _ hT2 Fx.rf.sI.sI XR.ok
        · rw [if_neg h3] at h
          refine z_iconst (v := 1) dX1_give_30 (by decide) (z_goto 35 dX1_give_31 (by decide) (z_invS1 (md_X1_may _) cs_X1_287 dX1_give_35 rfl (Nat.le_of_ble_eq_true rfl) (Rm.ofB rfl) (X_mayT (z_aload4 dX1_give_38 (z_dupa dX1_give_40 (z_getIv fl_X1_274 dX1_give_41 rfl rfl (hR.q 23 j (by decide)) (z_iload2 dX1_give_44 (z_ior dX1_give_45 (z_putI fl_X1_274 dX1_give_46 rfl rfl ⟨rfl, rfl⟩ (z_aload3 dX1_give_49 (z_aload4 dX1_give_50 (z_invS2 (md_X1_lacks _) cs_X1_290 dX1_give_52 rfl (Nat.le_of_ble_eq_true rfl) (Rm.ofB rfl) (X_lacks (w := 0) (w' := 0) (hX.of (μ' := sI μ 34 j 1 (σ 23 j ||| x)) rfl) hR1 (by decide) hj (z_if_ne 64 dX1_give_55 (by decide) (fun _ => z_aload3 dX1_give_64 (z_aload4 dX1_give_65 (z_invS2 (md_X1_lacks _) cs_X1_290 dX1_give_67 rfl (Nat.le_of_ble_eq_true rfl) (Rm.ofB rfl) (X_lacks (w := 0) (w' := 0) (hX.of (μ' := sI μ 34 j 1 (σ 23 j ||| x)) rfl) hR1 (by decide) hj (z_ireturn dX1_give_70 rfl (Nat.le_of_ble_eq_true rfl) (Nat.le_of_ble_eq_true rfl) ?_))))) (fun c => absurd c (h3))))))))))))))))
          exact h _ _ hT Fx.rf.sI XR.ok
    · rw [if_pos h2] at h
      refine z_aload0 dX1_give_0 (z_iload1 dX1_give_1 (z_invV1 (md_X1_askingAt _) cv_X1_283 rfl dX1_give_2 rfl (Nat.le_of_ble_eq_true rfl) (Rm.ofB rfl) (X_askingT hX hR h1 e hj na (z_astore3 dX1_give_5 (z_iload2 dX1_give_6 (z_invS1 (md_X1_isItems _) cs_X1_267 dX1_give_7 rfl (Nat.le_of_ble_eq_true rfl) (Rm.ofB rfl) (X_itemsF h2 ?_)))))))
      exact fun μ' i q => ⟨rfl, h _ _ (hI.exc q) (Fx.exc q) XR.e2⟩
  · rw [if_pos h1] at h
    refine z_aload0 dX1_give_0 (z_iload1 dX1_give_1 (z_invV1 (md_X1_askingAt _) cv_X1_283 rfl dX1_give_2 rfl (Nat.le_of_ble_eq_true rfl) (Rm.ofB rfl) (X_askingF hR h1 ?_)))
    exact fun μ' i q => ⟨rfl, h _ _ (hI.exc q) (Fx.exc q) XR.e1⟩
theorem O_led {a x : Int32} (hI : TX σ Λ μ) (hC : CT σ) (h6 : ∀ a, σ 6 a = 0 ∨ σ 6 a = 1) (h : ∀ r μ', TX (pLed σ a x).1 Λ μ' → Fx μ μ' → XR [40, 41] (pLed σ a x).2.1 (rI (pLed σ a x).2.2) r → Q r μ') : Ct RX1 cX1_led (5, some .int, [], false, rmm 8 2 12) [vr 1 0, vi a, vi x] μ Q := by
  refine Ct.of (ls := [some (vr 1 0), some (vi a), some (vi x), none, none]) rfl fun Γ C ad => ?_
  have hX := hI.1
  have hR := hI.2.1
  have na := hC.na
  unfold pLed at h
  by_cases h1 : isA σ a
  · rw [if_neg (nn h1)] at h
    obtain ⟨j, hj, e⟩ := hC.isA h1
    have ej : tn a = j := by rw [e, tn_nI (by omega)]
    have i120 : j < 120 := by omega
    rw [ej] at h
    by_cases h2 : 0 ≤ x ∧ x ≤ 15
    · rw [if_neg (nn h2)] at h
      obtain ⟨k, hk, ek⟩ := in_nI (n := 15) h2 rfl
      subst ek
      match k, hk with
      | 0, _ =>
        refine z_aload0 dX1_led_0 (z_iload1 dX1_led_1 (z_invV1 (md_X1_askingAt _) cv_X1_283 rfl dX1_led_2 rfl (Nat.le_of_ble_eq_true rfl) (Rm.ofB rfl) (X_askingT hX hR h1 e hj na (z_astore3 dX1_led_5 (z_aload0 dX1_led_6 (z_getP fl_X1_42 dX1_led_7 rfl rfl (hX.f1 5 (by decide)) (z_getP fl_X1_232 dX1_led_10 rfl rfl (hX.f4 _ (by decide)) (z_iload1 dX1_led_13 (z_aald dX1_led_14 rfl (by decide) rfl ⟨e, i120, Nat.le_of_ble_eq_true rfl⟩ (hX.mo hj) (z_astore4 dX1_led_15 (z_iload2 dX1_led_17 (z_tabIn 96 dX1_led_18 (by decide) (by decide) rfl (by decide) (z_aload4 dX1_led_96 (z_getIv fl_X1_236 dX1_led_98 rfl rfl (hR.q 0 _ (by decide)) (z_ireturn dX1_led_101 rfl (Nat.le_of_ble_eq_true rfl) (Nat.le_of_ble_eq_true rfl) ?_)))))))))))))))
        exact h _ _ hI Fx.rf XR.ok
      | 1, _ =>
        refine z_aload0 dX1_led_0 (z_iload1 dX1_led_1 (z_invV1 (md_X1_askingAt _) cv_X1_283 rfl dX1_led_2 rfl (Nat.le_of_ble_eq_true rfl) (Rm.ofB rfl) (X_askingT hX hR h1 e hj na (z_astore3 dX1_led_5 (z_aload0 dX1_led_6 (z_getP fl_X1_42 dX1_led_7 rfl rfl (hX.f1 5 (by decide)) (z_getP fl_X1_232 dX1_led_10 rfl rfl (hX.f4 _ (by decide)) (z_iload1 dX1_led_13 (z_aald dX1_led_14 rfl (by decide) rfl ⟨e, i120, Nat.le_of_ble_eq_true rfl⟩ (hX.mo hj) (z_astore4 dX1_led_15 (z_iload2 dX1_led_17 (z_tabIn 102 dX1_led_18 (by decide) (by decide) rfl (by decide) (z_aload3 dX1_led_102 (z_getIv fl_X1_218 dX1_led_103 rfl rfl (hR.q 12 _ (by decide)) (z_ireturn dX1_led_106 rfl (Nat.le_of_ble_eq_true rfl) (Nat.le_of_ble_eq_true rfl) ?_)))))))))))))))
        exact h _ _ hI Fx.rf XR.ok
      | 2, _ =>
        refine z_aload0 dX1_led_0 (z_iload1 dX1_led_1 (z_invV1 (md_X1_askingAt _) cv_X1_283 rfl dX1_led_2 rfl (Nat.le_of_ble_eq_true rfl) (Rm.ofB rfl) (X_askingT hX hR h1 e hj na (z_astore3 dX1_led_5 (z_aload0 dX1_led_6 (z_getP fl_X1_42 dX1_led_7 rfl rfl (hX.f1 5 (by decide)) (z_getP fl_X1_232 dX1_led_10 rfl rfl (hX.f4 _ (by decide)) (z_iload1 dX1_led_13 (z_aald dX1_led_14 rfl (by decide) rfl ⟨e, i120, Nat.le_of_ble_eq_true rfl⟩ (hX.mo hj) (z_astore4 dX1_led_15 (z_iload2 dX1_led_17 (z_tabIn 107 dX1_led_18 (by decide) (by decide) rfl (by decide) (z_aload3 dX1_led_107 (z_getIv fl_X1_308 dX1_led_108 rfl rfl (hR.q 13 _ (by decide)) (z_ireturn dX1_led_111 rfl (Nat.le_of_ble_eq_true rfl) (Nat.le_of_ble_eq_true rfl) ?_)))))))))))))))
        exact h _ _ hI Fx.rf XR.ok
      | 3, _ =>
        refine z_aload0 dX1_led_0 (z_iload1 dX1_led_1 (z_invV1 (md_X1_askingAt _) cv_X1_283 rfl dX1_led_2 rfl (Nat.le_of_ble_eq_true rfl) (Rm.ofB rfl) (X_askingT hX hR h1 e hj na (z_astore3 dX1_led_5 (z_aload0 dX1_led_6 (z_getP fl_X1_42 dX1_led_7 rfl rfl (hX.f1 5 (by decide)) (z_getP fl_X1_232 dX1_led_10 rfl rfl (hX.f4 _ (by decide)) (z_iload1 dX1_led_13 (z_aald dX1_led_14 rfl (by decide) rfl ⟨e, i120, Nat.le_of_ble_eq_true rfl⟩ (hX.mo hj) (z_astore4 dX1_led_15 (z_iload2 dX1_led_17 (z_tabIn 112 dX1_led_18 (by decide) (by decide) rfl (by decide) (z_aload3 dX1_led_112 (z_getIv fl_X1_311 dX1_led_113 rfl rfl (hR.q 14 _ (by decide)) (z_ireturn dX1_led_116 rfl (Nat.le_of_ble_eq_true rfl) (Nat.le_of_ble_eq_true rfl) ?_)))))))))))))))
        exact h _ _ hI Fx.rf XR.ok
      | 4, _ =>
        refine z_aload0 dX1_led_0 (z_iload1 dX1_led_1 (z_invV1 (md_X1_askingAt _) cv_X1_283 rfl dX1_led_2 rfl (Nat.le_of_ble_eq_true rfl) (Rm.ofB rfl) (X_askingT hX hR h1 e hj na (z_astore3 dX1_led_5 (z_aload0 dX1_led_6 (z_getP fl_X1_42 dX1_led_7 rfl rfl (hX.f1 5 (by decide)) (z_getP fl_X1_232 dX1_led_10 rfl rfl (hX.f4 _ (by decide)) (z_iload1 dX1_led_13 (z_aald dX1_led_14 rfl (by decide) rfl ⟨e, i120, Nat.le_of_ble_eq_true rfl⟩ (hX.mo hj) (z_astore4 dX1_led_15 (z_iload2 dX1_led_17 (z_tabIn 117 dX1_led_18 (by decide) (by decide) rfl (by decide) (z_aload3 dX1_led_117 (z_getIv fl_X1_314 dX1_led_118 rfl rfl (hR.q 15 _ (by decide)) (z_ireturn dX1_led_121 rfl (Nat.le_of_ble_eq_true rfl) (Nat.le_of_ble_eq_true rfl) ?_)))))))))))))))
        exact h _ _ hI Fx.rf XR.ok
      | 5, _ =>
        refine z_aload0 dX1_led_0 (z_iload1 dX1_led_1 (z_invV1 (md_X1_askingAt _) cv_X1_283 rfl dX1_led_2 rfl (Nat.le_of_ble_eq_true rfl) (Rm.ofB rfl) (X_askingT hX hR h1 e hj na (z_astore3 dX1_led_5 (z_aload0 dX1_led_6 (z_getP fl_X1_42 dX1_led_7 rfl rfl (hX.f1 5 (by decide)) (z_getP fl_X1_232 dX1_led_10 rfl rfl (hX.f4 _ (by decide)) (z_iload1 dX1_led_13 (z_aald dX1_led_14 rfl (by decide) rfl ⟨e, i120, Nat.le_of_ble_eq_true rfl⟩ (hX.mo hj) (z_astore4 dX1_led_15 (z_iload2 dX1_led_17 (z_tabIn 122 dX1_led_18 (by decide) (by decide) rfl (by decide) (z_aload4 dX1_led_122 (z_getIv fl_X1_274 dX1_led_124 rfl rfl (hR.q 23 _ (by decide)) (z_ireturn dX1_led_127 rfl (Nat.le_of_ble_eq_true rfl) (Nat.le_of_ble_eq_true rfl) ?_)))))))))))))))
        exact h _ _ hI Fx.rf XR.ok
      | 6, _ =>
        refine z_aload0 dX1_led_0 (z_iload1 dX1_led_1 (z_invV1 (md_X1_askingAt _) cv_X1_283 rfl dX1_led_2 rfl (Nat.le_of_ble_eq_true rfl) (Rm.ofB rfl) (X_askingT hX hR h1 e hj na (z_astore3 dX1_led_5 (z_aload0 dX1_led_6 (z_getP fl_X1_42 dX1_led_7 rfl rfl (hX.f1 5 (by decide)) (z_getP fl_X1_232 dX1_led_10 rfl rfl (hX.f4 _ (by decide)) (z_iload1 dX1_led_13 (z_aald dX1_led_14 rfl (by decide) rfl ⟨e, i120, Nat.le_of_ble_eq_true rfl⟩ (hX.mo hj) (z_astore4 dX1_led_15 (z_iload2 dX1_led_17 (z_tabIn 128 dX1_led_18 (by decide) (by decide) rfl (by decide) (z_aload3 dX1_led_128 (z_aload4 dX1_led_129 (z_invS2 (md_X1_lacks _) cs_X1_290 dX1_led_131 rfl (Nat.le_of_ble_eq_true rfl) (Rm.ofB rfl) (X_lacks (w := 0) (w' := 0) hX hR (by decide) hj (z_ireturn dX1_led_134 rfl (Nat.le_of_ble_eq_true rfl) (Nat.le_of_ble_eq_true rfl) ?_)))))))))))))))))
        exact h _ _ hI Fx.rf XR.ok
      | 7, _ =>
        refine z_aload0 dX1_led_0 (z_iload1 dX1_led_1 (z_invV1 (md_X1_askingAt _) cv_X1_283 rfl dX1_led_2 rfl (Nat.le_of_ble_eq_true rfl) (Rm.ofB rfl) (X_askingT hX hR h1 e hj na (z_astore3 dX1_led_5 (z_aload0 dX1_led_6 (z_getP fl_X1_42 dX1_led_7 rfl rfl (hX.f1 5 (by decide)) (z_getP fl_X1_232 dX1_led_10 rfl rfl (hX.f4 _ (by decide)) (z_iload1 dX1_led_13 (z_aald dX1_led_14 rfl (by decide) rfl ⟨e, i120, Nat.le_of_ble_eq_true rfl⟩ (hX.mo hj) (z_astore4 dX1_led_15 (z_iload2 dX1_led_17 (z_tabIn 135 dX1_led_18 (by decide) (by decide) rfl (by decide) (z_aload3 dX1_led_135 (z_getP fl_X1_222 dX1_led_136 rfl rfl (hX.ru hj) (z_getIv fl_X1_255 dX1_led_139 rfl rfl (hR.q 18 _ (by decide)) (z_ireturn dX1_led_142 rfl (Nat.le_of_ble_eq_true rfl) (Nat.le_of_ble_eq_true rfl) ?_))))))))))))))))
        exact h _ _ hI Fx.rf XR.ok
      | 8, _ =>
        rcases h6 j with q | q
        · refine z_aload0 dX1_led_0 (z_iload1 dX1_led_1 (z_invV1 (md_X1_askingAt _) cv_X1_283 rfl dX1_led_2 rfl (Nat.le_of_ble_eq_true rfl) (Rm.ofB rfl) (X_askingT hX hR h1 e hj na (z_astore3 dX1_led_5 (z_aload0 dX1_led_6 (z_getP fl_X1_42 dX1_led_7 rfl rfl (hX.f1 5 (by decide)) (z_getP fl_X1_232 dX1_led_10 rfl rfl (hX.f4 _ (by decide)) (z_iload1 dX1_led_13 (z_aald dX1_led_14 rfl (by decide) rfl ⟨e, i120, Nat.le_of_ble_eq_true rfl⟩ (hX.mo hj) (z_astore4 dX1_led_15 (z_iload2 dX1_led_17 (z_tabIn 143 dX1_led_18 (by decide) (by decide) rfl (by decide) (z_aload4 dX1_led_143 (z_getIv fl_X1_317 dX1_led_145 rfl rfl (hR.q 6 _ (by decide)) (z_if_eq 155 dX1_led_148 (by decide) (fun _ => z_iconst (v := 0) dX1_led_155 (by decide) (z_ireturn dX1_led_156 rfl (Nat.le_of_ble_eq_true rfl) (Nat.le_of_ble_eq_true rfl) ?_)) (fun c => absurd (q) c))))))))))))))))
          rw [show ledF σ j (nI 8) = 0 from q] at h
          exact h _ _ hI Fx.rf XR.ok
        · refine z_aload0 dX1_led_0 (z_iload1 dX1_led_1 (z_invV1 (md_X1_askingAt _) cv_X1_283 rfl dX1_led_2 rfl (Nat.le_of_ble_eq_true rfl) (Rm.ofB rfl) (X_askingT hX hR h1 e hj na (z_astore3 dX1_led_5 (z_aload0 dX1_led_6 (z_getP fl_X1_42 dX1_led_7 rfl rfl (hX.f1 5 (by decide)) (z_getP fl_X1_232 dX1_led_10 rfl rfl (hX.f4 _ (by decide)) (z_iload1 dX1_led_13 (z_aald dX1_led_14 rfl (by decide) rfl ⟨e, i120, Nat.le_of_ble_eq_true rfl⟩ (hX.mo hj) (z_astore4 dX1_led_15 (z_iload2 dX1_led_17 (z_tabIn 143 dX1_led_18 (by decide) (by decide) rfl (by decide) (z_aload4 dX1_led_143 (z_getIv fl_X1_317 dX1_led_145 rfl rfl (hR.q 6 _ (by decide)) (z_if_eq 155 dX1_led_148 (by decide) (fun c => absurd c ((by rw [q]; decide))) (fun _ => z_iconst (v := 1) dX1_led_151 (by decide) (z_goto 156 dX1_led_152 (by decide) (z_ireturn dX1_led_156 rfl (Nat.le_of_ble_eq_true rfl) (Nat.le_of_ble_eq_true rfl) ?_))))))))))))))))))
          rw [show ledF σ j (nI 8) = 1 from q] at h
          exact h _ _ hI Fx.rf XR.ok
      | 9, _ =>
        refine z_aload0 dX1_led_0 (z_iload1 dX1_led_1 (z_invV1 (md_X1_askingAt _) cv_X1_283 rfl dX1_led_2 rfl (Nat.le_of_ble_eq_true rfl) (Rm.ofB rfl) (X_askingT hX hR h1 e hj na (z_astore3 dX1_led_5 (z_aload0 dX1_led_6 (z_getP fl_X1_42 dX1_led_7 rfl rfl (hX.f1 5 (by decide)) (z_getP fl_X1_232 dX1_led_10 rfl rfl (hX.f4 _ (by decide)) (z_iload1 dX1_led_13 (z_aald dX1_led_14 rfl (by decide) rfl ⟨e, i120, Nat.le_of_ble_eq_true rfl⟩ (hX.mo hj) (z_astore4 dX1_led_15 (z_iload2 dX1_led_17 (z_tabIn 157 dX1_led_18 (by decide) (by decide) rfl (by decide) (z_aload3 dX1_led_157 (z_getP fl_X1_222 dX1_led_158 rfl rfl (hX.ru hj) (z_getIv fl_X1_229 dX1_led_161 rfl rfl (hR.q 20 _ (by decide)) (z_ireturn dX1_led_164 rfl (Nat.le_of_ble_eq_true rfl) (Nat.le_of_ble_eq_true rfl) ?_))))))))))))))))
        exact h _ _ hI Fx.rf XR.ok
      | 10, _ =>
        refine z_aload0 dX1_led_0 (z_iload1 dX1_led_1 (z_invV1 (md_X1_askingAt _) cv_X1_283 rfl dX1_led_2 rfl (Nat.le_of_ble_eq_true rfl) (Rm.ofB rfl) (X_askingT hX hR h1 e hj na (z_astore3 dX1_led_5 (z_aload0 dX1_led_6 (z_getP fl_X1_42 dX1_led_7 rfl rfl (hX.f1 5 (by decide)) (z_getP fl_X1_232 dX1_led_10 rfl rfl (hX.f4 _ (by decide)) (z_iload1 dX1_led_13 (z_aald dX1_led_14 rfl (by decide) rfl ⟨e, i120, Nat.le_of_ble_eq_true rfl⟩ (hX.mo hj) (z_astore4 dX1_led_15 (z_iload2 dX1_led_17 (z_tabIn 165 dX1_led_18 (by decide) (by decide) rfl (by decide) (z_aload3 dX1_led_165 (z_getP fl_X1_222 dX1_led_166 rfl rfl (hX.ru hj) (z_getIv fl_X1_258 dX1_led_169 rfl rfl (hR.q 19 _ (by decide)) (z_ireturn dX1_led_172 rfl (Nat.le_of_ble_eq_true rfl) (Nat.le_of_ble_eq_true rfl) ?_))))))))))))))))
        exact h _ _ hI Fx.rf XR.ok
      | 11, _ =>
        refine z_aload0 dX1_led_0 (z_iload1 dX1_led_1 (z_invV1 (md_X1_askingAt _) cv_X1_283 rfl dX1_led_2 rfl (Nat.le_of_ble_eq_true rfl) (Rm.ofB rfl) (X_askingT hX hR h1 e hj na (z_astore3 dX1_led_5 (z_aload0 dX1_led_6 (z_getP fl_X1_42 dX1_led_7 rfl rfl (hX.f1 5 (by decide)) (z_getP fl_X1_232 dX1_led_10 rfl rfl (hX.f4 _ (by decide)) (z_iload1 dX1_led_13 (z_aald dX1_led_14 rfl (by decide) rfl ⟨e, i120, Nat.le_of_ble_eq_true rfl⟩ (hX.mo hj) (z_astore4 dX1_led_15 (z_iload2 dX1_led_17 (z_tabIn 173 dX1_led_18 (by decide) (by decide) rfl (by decide) (z_aload4 dX1_led_173 (z_getIv fl_X1_294 dX1_led_175 rfl rfl (hR.q 1 _ (by decide)) (z_ireturn dX1_led_178 rfl (Nat.le_of_ble_eq_true rfl) (Nat.le_of_ble_eq_true rfl) ?_)))))))))))))))
        exact h _ _ hI Fx.rf XR.ok
      | 12, _ =>
        refine z_aload0 dX1_led_0 (z_iload1 dX1_led_1 (z_invV1 (md_X1_askingAt _) cv_X1_283 rfl dX1_led_2 rfl (Nat.le_of_ble_eq_true rfl) (Rm.ofB rfl) (X_askingT hX hR h1 e hj na (z_astore3 dX1_led_5 (z_aload0 dX1_led_6 (z_getP fl_X1_42 dX1_led_7 rfl rfl (hX.f1 5 (by decide)) (z_getP fl_X1_232 dX1_led_10 rfl rfl (hX.f4 _ (by decide)) (z_iload1 dX1_led_13 (z_aald dX1_led_14 rfl (by decide) rfl ⟨e, i120, Nat.le_of_ble_eq_true rfl⟩ (hX.mo hj) (z_astore4 dX1_led_15 (z_iload2 dX1_led_17 (z_tabIn 179 dX1_led_18 (by decide) (by decide) rfl (by decide) (z_aload4 dX1_led_179 (z_getIv fl_X1_320 dX1_led_181 rfl rfl (hR.q 2 _ (by decide)) (z_ireturn dX1_led_184 rfl (Nat.le_of_ble_eq_true rfl) (Nat.le_of_ble_eq_true rfl) ?_)))))))))))))))
        exact h _ _ hI Fx.rf XR.ok
      | 13, _ =>
        refine z_aload0 dX1_led_0 (z_iload1 dX1_led_1 (z_invV1 (md_X1_askingAt _) cv_X1_283 rfl dX1_led_2 rfl (Nat.le_of_ble_eq_true rfl) (Rm.ofB rfl) (X_askingT hX hR h1 e hj na (z_astore3 dX1_led_5 (z_aload0 dX1_led_6 (z_getP fl_X1_42 dX1_led_7 rfl rfl (hX.f1 5 (by decide)) (z_getP fl_X1_232 dX1_led_10 rfl rfl (hX.f4 _ (by decide)) (z_iload1 dX1_led_13 (z_aald dX1_led_14 rfl (by decide) rfl ⟨e, i120, Nat.le_of_ble_eq_true rfl⟩ (hX.mo hj) (z_astore4 dX1_led_15 (z_iload2 dX1_led_17 (z_tabIn 185 dX1_led_18 (by decide) (by decide) rfl (by decide) (z_aload4 dX1_led_185 (z_getIv fl_X1_323 dX1_led_187 rfl rfl (hR.q 3 _ (by decide)) (z_ireturn dX1_led_190 rfl (Nat.le_of_ble_eq_true rfl) (Nat.le_of_ble_eq_true rfl) ?_)))))))))))))))
        exact h _ _ hI Fx.rf XR.ok
      | 14, _ =>
        refine z_aload0 dX1_led_0 (z_iload1 dX1_led_1 (z_invV1 (md_X1_askingAt _) cv_X1_283 rfl dX1_led_2 rfl (Nat.le_of_ble_eq_true rfl) (Rm.ofB rfl) (X_askingT hX hR h1 e hj na (z_astore3 dX1_led_5 (z_aload0 dX1_led_6 (z_getP fl_X1_42 dX1_led_7 rfl rfl (hX.f1 5 (by decide)) (z_getP fl_X1_232 dX1_led_10 rfl rfl (hX.f4 _ (by decide)) (z_iload1 dX1_led_13 (z_aald dX1_led_14 rfl (by decide) rfl ⟨e, i120, Nat.le_of_ble_eq_true rfl⟩ (hX.mo hj) (z_astore4 dX1_led_15 (z_iload2 dX1_led_17 (z_tabIn 191 dX1_led_18 (by decide) (by decide) rfl (by decide) (z_aload4 dX1_led_191 (z_getIv fl_X1_305 dX1_led_193 rfl rfl (hR.q 4 _ (by decide)) (z_ireturn dX1_led_196 rfl (Nat.le_of_ble_eq_true rfl) (Nat.le_of_ble_eq_true rfl) ?_)))))))))))))))
        exact h _ _ hI Fx.rf XR.ok
      | 15, _ =>
        refine z_aload0 dX1_led_0 (z_iload1 dX1_led_1 (z_invV1 (md_X1_askingAt _) cv_X1_283 rfl dX1_led_2 rfl (Nat.le_of_ble_eq_true rfl) (Rm.ofB rfl) (X_askingT hX hR h1 e hj na (z_astore3 dX1_led_5 (z_aload0 dX1_led_6 (z_getP fl_X1_42 dX1_led_7 rfl rfl (hX.f1 5 (by decide)) (z_getP fl_X1_232 dX1_led_10 rfl rfl (hX.f4 _ (by decide)) (z_iload1 dX1_led_13 (z_aald dX1_led_14 rfl (by decide) rfl ⟨e, i120, Nat.le_of_ble_eq_true rfl⟩ (hX.mo hj) (z_astore4 dX1_led_15 (z_iload2 dX1_led_17 (z_tabIn 197 dX1_led_18 (by decide) (by decide) rfl (by decide) (z_aload4 dX1_led_197 (z_getIv fl_X1_326 dX1_led_199 rfl rfl (hR.q 5 _ (by decide)) (z_ireturn dX1_led_202 rfl (Nat.le_of_ble_eq_true rfl) (Nat.le_of_ble_eq_true rfl) ?_)))))))))))))))
        exact h _ _ hI Fx.rf XR.ok
      | k + 16, hk => exact absurd hk (by omega)
    · rw [if_pos h2] at h
      have hout : x.toInt < 0 ∨ 15 < x.toInt := by
        by_cases q : 0 ≤ x
        · exact Or.inr (Int32.lt_iff_toInt_lt.mp (Int32.not_le.mp fun z => h2 ⟨q, z⟩))
        · exact Or.inl (by simpa using Int32.lt_iff_toInt_lt.mp (Int32.not_le.mp q))
      refine z_aload0 dX1_led_0 (z_iload1 dX1_led_1 (z_invV1 (md_X1_askingAt _) cv_X1_283 rfl dX1_led_2 rfl (Nat.le_of_ble_eq_true rfl) (Rm.ofB rfl) (X_askingT hX hR h1 e hj na (z_astore3 dX1_led_5 (z_aload0 dX1_led_6 (z_getP fl_X1_42 dX1_led_7 rfl rfl (hX.f1 5 (by decide)) (z_getP fl_X1_232 dX1_led_10 rfl rfl (hX.f4 _ (by decide)) (z_iload1 dX1_led_13 (z_aald dX1_led_14 rfl (by decide) rfl ⟨e, i120, Nat.le_of_ble_eq_true rfl⟩ (hX.mo hj) (z_astore4 dX1_led_15 (z_iload2 dX1_led_17 (z_tabOut 203 dX1_led_18 hout (by decide) ?_))))))))))))
      refine z_exc 41 ex_X1_264_266 dX1_led_203 dX1_led_206 dX1_led_207 rfl (by decide) rfl (by decide) (by decide) (by decide) (by decide) (z_athrow dX1_led_210 rfl (by decide) (by decide) ?_)
      have q := FX.exc (μ := μ) (p := 41) (by decide) (by decide)
      exact h _ _ (hI.exc q) (Fx.exc q) XR.e2
  · rw [if_pos h1] at h
    refine z_aload0 dX1_led_0 (z_iload1 dX1_led_1 (z_invV1 (md_X1_askingAt _) cv_X1_283 rfl dX1_led_2 rfl (Nat.le_of_ble_eq_true rfl) (Rm.ofB rfl) (X_askingF hR h1 ?_)))
    exact fun μ' i q => ⟨rfl, h _ _ (hI.exc q) (Fx.exc q) XR.e1⟩
theorem O_booklet {b x : Int32} (hI : TX σ Λ μ) (hC : CT σ) (h : ∀ r μ', TX (pBooklet σ b x).1 Λ μ' → Fx μ μ' → XR [40, 41] (pBooklet σ b x).2.1 (rI (pBooklet σ b x).2.2) r → Q r μ') : Ct RX1 cX1_booklet (4, some .int, [], false, rmm 8 2 12) [vr 1 0, vi b, vi x] μ Q := by
  refine Ct.of (ls := [some (vr 1 0), some (vi b), some (vi x), none]) rfl fun Γ C ad => ?_
  have hX := hI.1
  have hR := hI.2.1
  have nb := hC.nb
  unfold pBooklet at h
  by_cases h1 : 0 ≤ b ∧ b ≤ σ 7 4 - 1
  · rw [if_neg (nn h1)] at h
    obtain ⟨j, hj, e⟩ := lt_nI hC.2.2.2.2.1.1 (by omega) h1
    have ej : tn b = j := by rw [e, tn_nI (by omega)]
    have i150 : j < 150 := by omega
    rw [ej] at h
    by_cases h2 : 0 ≤ x ∧ x ≤ 3
    · rw [if_neg (nn h2)] at h
      obtain ⟨k, hk, ek⟩ := in_nI (n := 3) h2 rfl
      subst ek
      match k, hk with
      | 0, _ =>
        refine z_iload1 dX1_booklet_0 (z_iconst (v := 0) dX1_booklet_1 (by decide) (z_aload0 dX1_booklet_2 (z_getP fl_X1_42 dX1_booklet_3 rfl rfl (hX.f1 5 (by decide)) (z_getIv fl_X1_167 dX1_booklet_6 rfl rfl (hR.wd 4 (by decide)) (z_iconst (v := 1) dX1_booklet_9 (by decide) (z_isub dX1_booklet_10 (z_invS3 (md_X1_isIn _) cs_X1_114 dX1_booklet_11 rfl (Nat.le_of_ble_eq_true rfl) (Rm.ofB rfl) (X_inT h1 (z_invS1 (md_X1_mustBe _) cs_X1_118 dX1_booklet_14 rfl (Nat.le_of_ble_eq_true rfl) (Rm.ofB rfl) (X_mustBeT (z_aload0 dX1_booklet_17 (z_getP fl_X1_51 dX1_booklet_18 rfl rfl (hX.f1 7 (by decide)) (z_iload1 dX1_booklet_21 (z_aald dX1_booklet_22 rfl (by decide) rfl ⟨e, i150, Nat.le_of_ble_eq_true rfl⟩ (hX.bo hj) (z_astore3 dX1_booklet_23 (z_iload2 dX1_booklet_24 (z_tabIn 56 dX1_booklet_25 (by decide) (by decide) rfl (by decide) (z_aload3 dX1_booklet_56 (z_getIv fl_X1_169 dX1_booklet_57 rfl rfl (hR.q 8 _ (by decide)) (z_ireturn dX1_booklet_60 rfl (Nat.le_of_ble_eq_true rfl) (Nat.le_of_ble_eq_true rfl) ?_))))))))))))))))))))
        exact h _ _ hI Fx.rf XR.ok
      | 1, _ =>
        refine z_iload1 dX1_booklet_0 (z_iconst (v := 0) dX1_booklet_1 (by decide) (z_aload0 dX1_booklet_2 (z_getP fl_X1_42 dX1_booklet_3 rfl rfl (hX.f1 5 (by decide)) (z_getIv fl_X1_167 dX1_booklet_6 rfl rfl (hR.wd 4 (by decide)) (z_iconst (v := 1) dX1_booklet_9 (by decide) (z_isub dX1_booklet_10 (z_invS3 (md_X1_isIn _) cs_X1_114 dX1_booklet_11 rfl (Nat.le_of_ble_eq_true rfl) (Rm.ofB rfl) (X_inT h1 (z_invS1 (md_X1_mustBe _) cs_X1_118 dX1_booklet_14 rfl (Nat.le_of_ble_eq_true rfl) (Rm.ofB rfl) (X_mustBeT (z_aload0 dX1_booklet_17 (z_getP fl_X1_51 dX1_booklet_18 rfl rfl (hX.f1 7 (by decide)) (z_iload1 dX1_booklet_21 (z_aald dX1_booklet_22 rfl (by decide) rfl ⟨e, i150, Nat.le_of_ble_eq_true rfl⟩ (hX.bo hj) (z_astore3 dX1_booklet_23 (z_iload2 dX1_booklet_24 (z_tabIn 61 dX1_booklet_25 (by decide) (by decide) rfl (by decide) (z_aload3 dX1_booklet_61 (z_getIv fl_X1_413 dX1_booklet_62 rfl rfl (hR.q 9 _ (by decide)) (z_ireturn dX1_booklet_65 rfl (Nat.le_of_ble_eq_true rfl) (Nat.le_of_ble_eq_true rfl) ?_))))))))))))))))))))
        exact h _ _ hI Fx.rf XR.ok
      | 2, _ =>
        refine z_iload1 dX1_booklet_0 (z_iconst (v := 0) dX1_booklet_1 (by decide) (z_aload0 dX1_booklet_2 (z_getP fl_X1_42 dX1_booklet_3 rfl rfl (hX.f1 5 (by decide)) (z_getIv fl_X1_167 dX1_booklet_6 rfl rfl (hR.wd 4 (by decide)) (z_iconst (v := 1) dX1_booklet_9 (by decide) (z_isub dX1_booklet_10 (z_invS3 (md_X1_isIn _) cs_X1_114 dX1_booklet_11 rfl (Nat.le_of_ble_eq_true rfl) (Rm.ofB rfl) (X_inT h1 (z_invS1 (md_X1_mustBe _) cs_X1_118 dX1_booklet_14 rfl (Nat.le_of_ble_eq_true rfl) (Rm.ofB rfl) (X_mustBeT (z_aload0 dX1_booklet_17 (z_getP fl_X1_51 dX1_booklet_18 rfl rfl (hX.f1 7 (by decide)) (z_iload1 dX1_booklet_21 (z_aald dX1_booklet_22 rfl (by decide) rfl ⟨e, i150, Nat.le_of_ble_eq_true rfl⟩ (hX.bo hj) (z_astore3 dX1_booklet_23 (z_iload2 dX1_booklet_24 (z_tabIn 66 dX1_booklet_25 (by decide) (by decide) rfl (by decide) (z_aload3 dX1_booklet_66 (z_getIv fl_X1_297 dX1_booklet_67 rfl rfl (hR.q 10 _ (by decide)) (z_ireturn dX1_booklet_70 rfl (Nat.le_of_ble_eq_true rfl) (Nat.le_of_ble_eq_true rfl) ?_))))))))))))))))))))
        exact h _ _ hI Fx.rf XR.ok
      | 3, _ =>
        refine z_iload1 dX1_booklet_0 (z_iconst (v := 0) dX1_booklet_1 (by decide) (z_aload0 dX1_booklet_2 (z_getP fl_X1_42 dX1_booklet_3 rfl rfl (hX.f1 5 (by decide)) (z_getIv fl_X1_167 dX1_booklet_6 rfl rfl (hR.wd 4 (by decide)) (z_iconst (v := 1) dX1_booklet_9 (by decide) (z_isub dX1_booklet_10 (z_invS3 (md_X1_isIn _) cs_X1_114 dX1_booklet_11 rfl (Nat.le_of_ble_eq_true rfl) (Rm.ofB rfl) (X_inT h1 (z_invS1 (md_X1_mustBe _) cs_X1_118 dX1_booklet_14 rfl (Nat.le_of_ble_eq_true rfl) (Rm.ofB rfl) (X_mustBeT (z_aload0 dX1_booklet_17 (z_getP fl_X1_51 dX1_booklet_18 rfl rfl (hX.f1 7 (by decide)) (z_iload1 dX1_booklet_21 (z_aald dX1_booklet_22 rfl (by decide) rfl ⟨e, i150, Nat.le_of_ble_eq_true rfl⟩ (hX.bo hj) (z_astore3 dX1_booklet_23 (z_iload2 dX1_booklet_24 (z_tabIn 71 dX1_booklet_25 (by decide) (by decide) rfl (by decide) (z_aload3 dX1_booklet_71 (z_getIv fl_X1_416 dX1_booklet_72 rfl rfl (hR.q 11 _ (by decide)) (z_ireturn dX1_booklet_75 rfl (Nat.le_of_ble_eq_true rfl) (Nat.le_of_ble_eq_true rfl) ?_))))))))))))))))))))
        exact h _ _ hI Fx.rf XR.ok
      | k + 4, hk => exact absurd hk (by omega)
    · rw [if_pos h2] at h
      have hout : x.toInt < 0 ∨ 3 < x.toInt := by
        by_cases q : 0 ≤ x
        · exact Or.inr (Int32.lt_iff_toInt_lt.mp (Int32.not_le.mp fun z => h2 ⟨q, z⟩))
        · exact Or.inl (by simpa using Int32.lt_iff_toInt_lt.mp (Int32.not_le.mp q))
      refine z_iload1 dX1_booklet_0 (z_iconst (v := 0) dX1_booklet_1 (by decide) (z_aload0 dX1_booklet_2 (z_getP fl_X1_42 dX1_booklet_3 rfl rfl (hX.f1 5 (by decide)) (z_getIv fl_X1_167 dX1_booklet_6 rfl rfl (hR.wd 4 (by decide)) (z_iconst (v := 1) dX1_booklet_9 (by decide) (z_isub dX1_booklet_10 (z_invS3 (md_X1_isIn _) cs_X1_114 dX1_booklet_11 rfl (Nat.le_of_ble_eq_true rfl) (Rm.ofB rfl) (X_inT h1 (z_invS1 (md_X1_mustBe _) cs_X1_118 dX1_booklet_14 rfl (Nat.le_of_ble_eq_true rfl) (Rm.ofB rfl) (X_mustBeT (z_aload0 dX1_booklet_17 (z_getP fl_X1_51 dX1_booklet_18 rfl rfl (hX.f1 7 (by decide)) (z_iload1 dX1_booklet_21 (z_aald dX1_booklet_22 rfl (by decide) rfl ⟨e, i150, Nat.le_of_ble_eq_true rfl⟩ (hX.bo hj) (z_astore3 dX1_booklet_23 (z_iload2 dX1_booklet_24 (z_tabOut 76 dX1_booklet_25 hout (by decide) ?_)))))))))))))))))
      refine z_exc 41 ex_X1_264_266 dX1_booklet_76 dX1_booklet_79 dX1_booklet_80 rfl (by decide) rfl (by decide) (by decide) (by decide) (by decide) (z_athrow dX1_booklet_83 rfl (by decide) (by decide) ?_)
      have q := FX.exc (μ := μ) (p := 41) (by decide) (by decide)
      exact h _ _ (hI.exc q) (Fx.exc q) XR.e2
  · rw [if_pos h1] at h
    refine z_iload1 dX1_booklet_0 (z_iconst (v := 0) dX1_booklet_1 (by decide) (z_aload0 dX1_booklet_2 (z_getP fl_X1_42 dX1_booklet_3 rfl rfl (hX.f1 5 (by decide)) (z_getIv fl_X1_167 dX1_booklet_6 rfl rfl (hR.wd 4 (by decide)) (z_iconst (v := 1) dX1_booklet_9 (by decide) (z_isub dX1_booklet_10 (z_invS3 (md_X1_isIn _) cs_X1_114 dX1_booklet_11 rfl (Nat.le_of_ble_eq_true rfl) (Rm.ofB rfl) (X_inF h1 (z_invS1 (md_X1_mustBe _) cs_X1_118 dX1_booklet_14 rfl (Nat.le_of_ble_eq_true rfl) (Rm.ofB rfl) (X_mustBeF ?_))))))))))
    exact fun μ' i q => ⟨rfl, h _ _ (hI.exc q) (Fx.exc q) XR.e1⟩
theorem O_count {x : Int32} (hI : TX σ Λ μ) (hC : CT σ) (h : ∀ r μ', TX (pCount σ x).1 Λ μ' → Fx μ μ' → r = rI (pCount σ x).2.2 → Q r μ') : Ct RX1 cX1_count (3, some .int, [], false, rmm 3 0 0) [vr 1 0, vi x] μ Q := by
  refine Ct.of (ls := [some (vr 1 0), some (vi x), none]) rfl fun Γ C ad => ?_
  have hX := hI.1
  have hR := hI.2.1
  unfold pCount at h
  by_cases h2 : 0 ≤ x ∧ x ≤ 17
  · obtain ⟨k, hk, ek⟩ := in_nI (n := 17) h2 rfl
    subst ek
    match k, hk with
    | 0, _ =>
      refine z_aload0 dX1_count_0 (z_aload0 dX1_count_1 (z_getP fl_X1_42 dX1_count_2 rfl rfl (hX.f1 5 (by decide)) (z_getIv fl_X1_140 dX1_count_5 rfl rfl (hR.wd 0 (by decide)) (z_invV1 (md_X1_lawOf _) cv_X1_176 rfl dX1_count_8 rfl (Nat.le_of_ble_eq_true rfl) (Rm.ofB rfl) (X_lawOf hX.xq hR hC.1.1 hC.ng (z_astore2 dX1_count_11 (z_iload1 dX1_count_12 (z_tabIn 100 dX1_count_13 (by decide) (by decide) rfl (by decide) (z_aload0 dX1_count_100 (z_getP fl_X1_42 dX1_count_101 rfl rfl (hX.f1 5 (by decide)) (z_getIv fl_X1_140 dX1_count_104 rfl rfl (hR.wd 0 (by decide)) (z_ireturn dX1_count_107 rfl (Nat.le_of_ble_eq_true rfl) (Nat.le_of_ble_eq_true rfl) ?_))))))))))))
      exact h _ _ hI Fx.rf rfl
    | 1, _ =>
      refine z_aload0 dX1_count_0 (z_aload0 dX1_count_1 (z_getP fl_X1_42 dX1_count_2 rfl rfl (hX.f1 5 (by decide)) (z_getIv fl_X1_140 dX1_count_5 rfl rfl (hR.wd 0 (by decide)) (z_invV1 (md_X1_lawOf _) cv_X1_176 rfl dX1_count_8 rfl (Nat.le_of_ble_eq_true rfl) (Rm.ofB rfl) (X_lawOf hX.xq hR hC.1.1 hC.ng (z_astore2 dX1_count_11 (z_iload1 dX1_count_12 (z_tabIn 108 dX1_count_13 (by decide) (by decide) rfl (by decide) (z_aload0 dX1_count_108 (z_getIv fl_X1_111 dX1_count_109 rfl rfl (hR.t 1 (by decide)) (z_ireturn dX1_count_112 rfl (Nat.le_of_ble_eq_true rfl) (Nat.le_of_ble_eq_true rfl) ?_)))))))))))
      exact h _ _ hI Fx.rf rfl
    | 2, _ =>
      refine z_aload0 dX1_count_0 (z_aload0 dX1_count_1 (z_getP fl_X1_42 dX1_count_2 rfl rfl (hX.f1 5 (by decide)) (z_getIv fl_X1_140 dX1_count_5 rfl rfl (hR.wd 0 (by decide)) (z_invV1 (md_X1_lawOf _) cv_X1_176 rfl dX1_count_8 rfl (Nat.le_of_ble_eq_true rfl) (Rm.ofB rfl) (X_lawOf hX.xq hR hC.1.1 hC.ng (z_astore2 dX1_count_11 (z_iload1 dX1_count_12 (z_tabIn 113 dX1_count_13 (by decide) (by decide) rfl (by decide) (z_aload0 dX1_count_113 (z_getIv fl_X1_155 dX1_count_114 rfl rfl (hR.t 0 (by decide)) (z_ireturn dX1_count_117 rfl (Nat.le_of_ble_eq_true rfl) (Nat.le_of_ble_eq_true rfl) ?_)))))))))))
      exact h _ _ hI Fx.rf rfl
    | 3, _ =>
      refine z_aload0 dX1_count_0 (z_aload0 dX1_count_1 (z_getP fl_X1_42 dX1_count_2 rfl rfl (hX.f1 5 (by decide)) (z_getIv fl_X1_140 dX1_count_5 rfl rfl (hR.wd 0 (by decide)) (z_invV1 (md_X1_lawOf _) cv_X1_176 rfl dX1_count_8 rfl (Nat.le_of_ble_eq_true rfl) (Rm.ofB rfl) (X_lawOf hX.xq hR hC.1.1 hC.ng (z_astore2 dX1_count_11 (z_iload1 dX1_count_12 (z_tabIn 118 dX1_count_13 (by decide) (by decide) rfl (by decide) (z_aload0 dX1_count_118 (z_getIv fl_X1_122 dX1_count_119 rfl rfl (hR.t 2 (by decide)) (z_ireturn dX1_count_122 rfl (Nat.le_of_ble_eq_true rfl) (Nat.le_of_ble_eq_true rfl) ?_)))))))))))
      exact h _ _ hI Fx.rf rfl
    | 4, _ =>
      refine z_aload0 dX1_count_0 (z_aload0 dX1_count_1 (z_getP fl_X1_42 dX1_count_2 rfl rfl (hX.f1 5 (by decide)) (z_getIv fl_X1_140 dX1_count_5 rfl rfl (hR.wd 0 (by decide)) (z_invV1 (md_X1_lawOf _) cv_X1_176 rfl dX1_count_8 rfl (Nat.le_of_ble_eq_true rfl) (Rm.ofB rfl) (X_lawOf hX.xq hR hC.1.1 hC.ng (z_astore2 dX1_count_11 (z_iload1 dX1_count_12 (z_tabIn 123 dX1_count_13 (by decide) (by decide) rfl (by decide) (z_aload0 dX1_count_123 (z_iconst (v := 0) dX1_count_124 (by decide) (z_iconst (v := 5) dX1_count_125 (by decide) (z_invV2 (md_X1_inState _) cv_X1_426 rfl dX1_count_126 rfl (Nat.le_of_ble_eq_true rfl) (Rm.ofB rfl) (X_inState hX hR hC.2.2.1.1 hC.na (z_ireturn dX1_count_129 rfl (Nat.le_of_ble_eq_true rfl) (Nat.le_of_ble_eq_true rfl) ?_))))))))))))))
      exact h _ _ hI Fx.rf rfl
    | 5, _ =>
      refine z_aload0 dX1_count_0 (z_aload0 dX1_count_1 (z_getP fl_X1_42 dX1_count_2 rfl rfl (hX.f1 5 (by decide)) (z_getIv fl_X1_140 dX1_count_5 rfl rfl (hR.wd 0 (by decide)) (z_invV1 (md_X1_lawOf _) cv_X1_176 rfl dX1_count_8 rfl (Nat.le_of_ble_eq_true rfl) (Rm.ofB rfl) (X_lawOf hX.xq hR hC.1.1 hC.ng (z_astore2 dX1_count_11 (z_iload1 dX1_count_12 (z_tabIn 130 dX1_count_13 (by decide) (by decide) rfl (by decide) (z_aload0 dX1_count_130 (z_bipush (v := 7) dX1_count_131 (by decide) (z_bipush (v := 7) dX1_count_133 (by decide) (z_invV2 (md_X1_inState _) cv_X1_426 rfl dX1_count_135 rfl (Nat.le_of_ble_eq_true rfl) (Rm.ofB rfl) (X_inState hX hR hC.2.2.1.1 hC.na (z_ireturn dX1_count_138 rfl (Nat.le_of_ble_eq_true rfl) (Nat.le_of_ble_eq_true rfl) ?_))))))))))))))
      exact h _ _ hI Fx.rf rfl
    | 6, _ =>
      refine z_aload0 dX1_count_0 (z_aload0 dX1_count_1 (z_getP fl_X1_42 dX1_count_2 rfl rfl (hX.f1 5 (by decide)) (z_getIv fl_X1_140 dX1_count_5 rfl rfl (hR.wd 0 (by decide)) (z_invV1 (md_X1_lawOf _) cv_X1_176 rfl dX1_count_8 rfl (Nat.le_of_ble_eq_true rfl) (Rm.ofB rfl) (X_lawOf hX.xq hR hC.1.1 hC.ng (z_astore2 dX1_count_11 (z_iload1 dX1_count_12 (z_tabIn 139 dX1_count_13 (by decide) (by decide) rfl (by decide) (z_aload0 dX1_count_139 (z_iconst (v := 3) dX1_count_140 (by decide) (z_iconst (v := 3) dX1_count_141 (by decide) (z_invV2 (md_X1_inState _) cv_X1_426 rfl dX1_count_142 rfl (Nat.le_of_ble_eq_true rfl) (Rm.ofB rfl) (X_inState hX hR hC.2.2.1.1 hC.na (z_ireturn dX1_count_145 rfl (Nat.le_of_ble_eq_true rfl) (Nat.le_of_ble_eq_true rfl) ?_))))))))))))))
      exact h _ _ hI Fx.rf rfl
    | 7, _ =>
      refine z_aload0 dX1_count_0 (z_aload0 dX1_count_1 (z_getP fl_X1_42 dX1_count_2 rfl rfl (hX.f1 5 (by decide)) (z_getIv fl_X1_140 dX1_count_5 rfl rfl (hR.wd 0 (by decide)) (z_invV1 (md_X1_lawOf _) cv_X1_176 rfl dX1_count_8 rfl (Nat.le_of_ble_eq_true rfl) (Rm.ofB rfl) (X_lawOf hX.xq hR hC.1.1 hC.ng (z_astore2 dX1_count_11 (z_iload1 dX1_count_12 (z_tabIn 146 dX1_count_13 (by decide) (by decide) rfl (by decide) (z_aload0 dX1_count_146 (z_getP fl_X1_42 dX1_count_147 rfl rfl (hX.f1 5 (by decide)) (z_getIv fl_X1_167 dX1_count_150 rfl rfl (hR.wd 4 (by decide)) (z_ireturn dX1_count_153 rfl (Nat.le_of_ble_eq_true rfl) (Nat.le_of_ble_eq_true rfl) ?_))))))))))))
      exact h _ _ hI Fx.rf rfl
    | 8, _ =>
      refine z_aload0 dX1_count_0 (z_aload0 dX1_count_1 (z_getP fl_X1_42 dX1_count_2 rfl rfl (hX.f1 5 (by decide)) (z_getIv fl_X1_140 dX1_count_5 rfl rfl (hR.wd 0 (by decide)) (z_invV1 (md_X1_lawOf _) cv_X1_176 rfl dX1_count_8 rfl (Nat.le_of_ble_eq_true rfl) (Rm.ofB rfl) (X_lawOf hX.xq hR hC.1.1 hC.ng (z_astore2 dX1_count_11 (z_iload1 dX1_count_12 (z_tabIn 154 dX1_count_13 (by decide) (by decide) rfl (by decide) (z_aload0 dX1_count_154 (z_getP fl_X1_42 dX1_count_155 rfl rfl (hX.f1 5 (by decide)) (z_getIv fl_X1_353 dX1_count_158 rfl rfl (hR.wd 1 (by decide)) (z_ireturn dX1_count_161 rfl (Nat.le_of_ble_eq_true rfl) (Nat.le_of_ble_eq_true rfl) ?_))))))))))))
      exact h _ _ hI Fx.rf rfl
    | 9, _ =>
      refine z_aload0 dX1_count_0 (z_aload0 dX1_count_1 (z_getP fl_X1_42 dX1_count_2 rfl rfl (hX.f1 5 (by decide)) (z_getIv fl_X1_140 dX1_count_5 rfl rfl (hR.wd 0 (by decide)) (z_invV1 (md_X1_lawOf _) cv_X1_176 rfl dX1_count_8 rfl (Nat.le_of_ble_eq_true rfl) (Rm.ofB rfl) (X_lawOf hX.xq hR hC.1.1 hC.ng (z_astore2 dX1_count_11 (z_iload1 dX1_count_12 (z_tabIn 162 dX1_count_13 (by decide) (by decide) rfl (by decide) (z_aload0 dX1_count_162 (z_getIv fl_X1_277 dX1_count_163 rfl rfl (hR.t 12 (by decide)) (z_ireturn dX1_count_166 rfl (Nat.le_of_ble_eq_true rfl) (Nat.le_of_ble_eq_true rfl) ?_)))))))))))
      exact h _ _ hI Fx.rf rfl
    | 10, _ =>
      refine z_aload0 dX1_count_0 (z_aload0 dX1_count_1 (z_getP fl_X1_42 dX1_count_2 rfl rfl (hX.f1 5 (by decide)) (z_getIv fl_X1_140 dX1_count_5 rfl rfl (hR.wd 0 (by decide)) (z_invV1 (md_X1_lawOf _) cv_X1_176 rfl dX1_count_8 rfl (Nat.le_of_ble_eq_true rfl) (Rm.ofB rfl) (X_lawOf hX.xq hR hC.1.1 hC.ng (z_astore2 dX1_count_11 (z_iload1 dX1_count_12 (z_tabIn 167 dX1_count_13 (by decide) (by decide) rfl (by decide) (z_aload0 dX1_count_167 (z_getIv fl_X1_374 dX1_count_168 rfl rfl (hR.b5) (z_ireturn dX1_count_171 rfl (Nat.le_of_ble_eq_true rfl) (Nat.le_of_ble_eq_true rfl) ?_)))))))))))
      exact h _ _ hI Fx.rf rfl
    | 11, _ =>
      refine z_aload0 dX1_count_0 (z_aload0 dX1_count_1 (z_getP fl_X1_42 dX1_count_2 rfl rfl (hX.f1 5 (by decide)) (z_getIv fl_X1_140 dX1_count_5 rfl rfl (hR.wd 0 (by decide)) (z_invV1 (md_X1_lawOf _) cv_X1_176 rfl dX1_count_8 rfl (Nat.le_of_ble_eq_true rfl) (Rm.ofB rfl) (X_lawOf hX.xq hR hC.1.1 hC.ng (z_astore2 dX1_count_11 (z_iload1 dX1_count_12 (z_tabIn 172 dX1_count_13 (by decide) (by decide) rfl (by decide) (z_aload0 dX1_count_172 (z_getP fl_X1_42 dX1_count_173 rfl rfl (hX.f1 5 (by decide)) (z_getIv fl_X1_384 dX1_count_176 rfl rfl (hR.wd 2 (by decide)) (z_ireturn dX1_count_179 rfl (Nat.le_of_ble_eq_true rfl) (Nat.le_of_ble_eq_true rfl) ?_))))))))))))
      exact h _ _ hI Fx.rf rfl
    | 12, _ =>
      refine z_aload0 dX1_count_0 (z_aload0 dX1_count_1 (z_getP fl_X1_42 dX1_count_2 rfl rfl (hX.f1 5 (by decide)) (z_getIv fl_X1_140 dX1_count_5 rfl rfl (hR.wd 0 (by decide)) (z_invV1 (md_X1_lawOf _) cv_X1_176 rfl dX1_count_8 rfl (Nat.le_of_ble_eq_true rfl) (Rm.ofB rfl) (X_lawOf hX.xq hR hC.1.1 hC.ng (z_astore2 dX1_count_11 (z_iload1 dX1_count_12 (z_tabIn 180 dX1_count_13 (by decide) (by decide) rfl (by decide) (z_aload0 dX1_count_180 (z_getIv fl_X1_410 dX1_count_181 rfl rfl (hR.t 13 (by decide)) (z_ireturn dX1_count_184 rfl (Nat.le_of_ble_eq_true rfl) (Nat.le_of_ble_eq_true rfl) ?_)))))))))))
      exact h _ _ hI Fx.rf rfl
    | 13, _ =>
      refine z_aload0 dX1_count_0 (z_aload0 dX1_count_1 (z_getP fl_X1_42 dX1_count_2 rfl rfl (hX.f1 5 (by decide)) (z_getIv fl_X1_140 dX1_count_5 rfl rfl (hR.wd 0 (by decide)) (z_invV1 (md_X1_lawOf _) cv_X1_176 rfl dX1_count_8 rfl (Nat.le_of_ble_eq_true rfl) (Rm.ofB rfl) (X_lawOf hX.xq hR hC.1.1 hC.ng (z_astore2 dX1_count_11 (z_iload1 dX1_count_12 (z_tabIn 185 dX1_count_13 (by decide) (by decide) rfl (by decide) (z_aload0 dX1_count_185 (z_getIv fl_X1_332 dX1_count_186 rfl rfl (hR.t 3 (by decide)) (z_ireturn dX1_count_189 rfl (Nat.le_of_ble_eq_true rfl) (Nat.le_of_ble_eq_true rfl) ?_)))))))))))
      exact h _ _ hI Fx.rf rfl
    | 14, _ =>
      refine z_aload0 dX1_count_0 (z_aload0 dX1_count_1 (z_getP fl_X1_42 dX1_count_2 rfl rfl (hX.f1 5 (by decide)) (z_getIv fl_X1_140 dX1_count_5 rfl rfl (hR.wd 0 (by decide)) (z_invV1 (md_X1_lawOf _) cv_X1_176 rfl dX1_count_8 rfl (Nat.le_of_ble_eq_true rfl) (Rm.ofB rfl) (X_lawOf hX.xq hR hC.1.1 hC.ng (z_astore2 dX1_count_11 (z_iload1 dX1_count_12 (z_tabIn 190 dX1_count_13 (by decide) (by decide) rfl (by decide) (z_aload0 dX1_count_190 (z_getP fl_X1_42 dX1_count_191 rfl rfl (hX.f1 5 (by decide)) (z_getIv fl_X1_387 dX1_count_194 rfl rfl (hR.wd 3 (by decide)) (z_ireturn dX1_count_197 rfl (Nat.le_of_ble_eq_true rfl) (Nat.le_of_ble_eq_true rfl) ?_))))))))))))
      exact h _ _ hI Fx.rf rfl
    | 15, _ =>
      by_cases q : lawF σ (σ 7 0) < 0
      · have eq : lwO (lawF σ (σ 7 0)) = none := by rw [lwO, if_pos q]
        refine z_aload0 dX1_count_0 (z_aload0 dX1_count_1 (z_getP fl_X1_42 dX1_count_2 rfl rfl (hX.f1 5 (by decide)) (z_getIv fl_X1_140 dX1_count_5 rfl rfl (hR.wd 0 (by decide)) (z_invV1 (md_X1_lawOf _) cv_X1_176 rfl dX1_count_8 rfl (Nat.le_of_ble_eq_true rfl) (Rm.ofB rfl) (X_lawOf hX.xq hR hC.1.1 hC.ng (z_astore2 dX1_count_11 (z_iload1 dX1_count_12 (z_tabIn 198 dX1_count_13 (by decide) (by decide) rfl (by decide) ?_))))))))
        rw [eq]
        refine z_aload2 dX1_count_198 (z_ifnonnull 206 dX1_count_199 (by decide) (fun _ c => by cases c) (fun _ => z_iconst (v := 0) dX1_count_202 (by decide) (z_goto 210 dX1_count_203 (by decide) (z_ireturn dX1_count_210 rfl (Nat.le_of_ble_eq_true rfl) (Nat.le_of_ble_eq_true rfl) ?_))))
        refine h _ _ hI Fx.rf ?_
        show rI 0 = rI (if lawF σ (σ 7 0) < 0 then 0 else σ 39 (tn (lawF σ (σ 7 0))))
        rw [if_pos q]
      · have eq : lwO (lawF σ (σ 7 0)) = some (26, tn (lawF σ (σ 7 0))) := by rw [lwO, if_neg q]
        refine z_aload0 dX1_count_0 (z_aload0 dX1_count_1 (z_getP fl_X1_42 dX1_count_2 rfl rfl (hX.f1 5 (by decide)) (z_getIv fl_X1_140 dX1_count_5 rfl rfl (hR.wd 0 (by decide)) (z_invV1 (md_X1_lawOf _) cv_X1_176 rfl dX1_count_8 rfl (Nat.le_of_ble_eq_true rfl) (Rm.ofB rfl) (X_lawOf hX.xq hR hC.1.1 hC.ng (z_astore2 dX1_count_11 (z_iload1 dX1_count_12 (z_tabIn 198 dX1_count_13 (by decide) (by decide) rfl (by decide) ?_))))))))
        rw [eq]
        refine z_aload2 dX1_count_198 (z_ifnonnull 206 dX1_count_199 (by decide) (fun _ _ => z_aload2 dX1_count_206 (z_getIv fl_X1_161 dX1_count_207 rfl rfl (hR.q 39 _ (by decide)) (z_ireturn dX1_count_210 rfl (Nat.le_of_ble_eq_true rfl) (Nat.le_of_ble_eq_true rfl) ?_))) (fun c => by cases c))
        refine h _ _ hI Fx.rf ?_
        show _ = rI (if lawF σ (σ 7 0) < 0 then 0 else σ 39 (tn (lawF σ (σ 7 0))))
        rw [if_neg q]
        rfl
    | 16, _ =>
      refine z_aload0 dX1_count_0 (z_aload0 dX1_count_1 (z_getP fl_X1_42 dX1_count_2 rfl rfl (hX.f1 5 (by decide)) (z_getIv fl_X1_140 dX1_count_5 rfl rfl (hR.wd 0 (by decide)) (z_invV1 (md_X1_lawOf _) cv_X1_176 rfl dX1_count_8 rfl (Nat.le_of_ble_eq_true rfl) (Rm.ofB rfl) (X_lawOf hX.xq hR hC.1.1 hC.ng (z_astore2 dX1_count_11 (z_iload1 dX1_count_12 (z_tabIn 211 dX1_count_13 (by decide) (by decide) rfl (by decide) (z_aload0 dX1_count_211 (z_bipush (v := 9) dX1_count_212 (by decide) (z_bipush (v := 9) dX1_count_214 (by decide) (z_invV2 (md_X1_inState _) cv_X1_426 rfl dX1_count_216 rfl (Nat.le_of_ble_eq_true rfl) (Rm.ofB rfl) (X_inState hX hR hC.2.2.1.1 hC.na (z_ireturn dX1_count_219 rfl (Nat.le_of_ble_eq_true rfl) (Nat.le_of_ble_eq_true rfl) ?_))))))))))))))
      exact h _ _ hI Fx.rf rfl
    | 17, _ =>
      refine z_aload0 dX1_count_0 (z_aload0 dX1_count_1 (z_getP fl_X1_42 dX1_count_2 rfl rfl (hX.f1 5 (by decide)) (z_getIv fl_X1_140 dX1_count_5 rfl rfl (hR.wd 0 (by decide)) (z_invV1 (md_X1_lawOf _) cv_X1_176 rfl dX1_count_8 rfl (Nat.le_of_ble_eq_true rfl) (Rm.ofB rfl) (X_lawOf hX.xq hR hC.1.1 hC.ng (z_astore2 dX1_count_11 (z_iload1 dX1_count_12 (z_tabIn 220 dX1_count_13 (by decide) (by decide) rfl (by decide) (z_aload0 dX1_count_220 (z_bipush (v := 8) dX1_count_221 (by decide) (z_bipush (v := 8) dX1_count_223 (by decide) (z_invV2 (md_X1_inState _) cv_X1_426 rfl dX1_count_225 rfl (Nat.le_of_ble_eq_true rfl) (Rm.ofB rfl) (X_inState hX hR hC.2.2.1.1 hC.na (z_ireturn dX1_count_228 rfl (Nat.le_of_ble_eq_true rfl) (Nat.le_of_ble_eq_true rfl) ?_))))))))))))))
      exact h _ _ hI Fx.rf rfl
    | k + 18, hk => exact absurd hk (by omega)
  · have hout : x.toInt < 0 ∨ 17 < x.toInt := by
      by_cases q : 0 ≤ x
      · exact Or.inr (Int32.lt_iff_toInt_lt.mp (Int32.not_le.mp fun z => h2 ⟨q, z⟩))
      · exact Or.inl (by simpa using Int32.lt_iff_toInt_lt.mp (Int32.not_le.mp q))
    refine z_aload0 dX1_count_0 (z_aload0 dX1_count_1 (z_getP fl_X1_42 dX1_count_2 rfl rfl (hX.f1 5 (by decide)) (z_getIv fl_X1_140 dX1_count_5 rfl rfl (hR.wd 0 (by decide)) (z_invV1 (md_X1_lawOf _) cv_X1_176 rfl dX1_count_8 rfl (Nat.le_of_ble_eq_true rfl) (Rm.ofB rfl) (X_lawOf hX.xq hR hC.1.1 hC.ng (z_astore2 dX1_count_11 (z_iload1 dX1_count_12 (z_tabOut 229 dX1_count_13 hout (by decide) (z_iconst (v := (-1)) dX1_count_229 (by decide) (z_ireturn dX1_count_230 rfl (Nat.le_of_ble_eq_true rfl) (Nat.le_of_ble_eq_true rfl) ?_))))))))))
    refine h _ _ hI Fx.rf ?_
    have ne : ∀ v : Int32, (0 ≤ v ∧ v ≤ 17) → ¬ x = v := fun v hv q => h2 (by rw [q]; exact hv)
    unfold countF
    rw [if_neg (ne 0 (by decide)), if_neg (ne 1 (by decide)), if_neg (ne 2 (by decide)), if_neg (ne 3 (by decide)), if_neg (ne 4 (by decide)), if_neg (ne 5 (by decide)), if_neg (ne 6 (by decide)), if_neg (ne 7 (by decide)), if_neg (ne 8 (by decide)), if_neg (ne 9 (by decide)), if_neg (ne 10 (by decide)), if_neg (ne 11 (by decide)), if_neg (ne 12 (by decide)), if_neg (ne 13 (by decide)), if_neg (ne 14 (by decide)), if_neg (ne 15 (by decide)), if_neg (ne 16 (by decide)), if_neg (ne 17 (by decide))]
end O2
