/-! the Office: judge -/
section O15
variable {μ μ' : Mem} {σ : Sg} {Λ : Lws} {Q : Res → Mem → Prop}
theorem TX.rw48 {r : Rul} (hI : TX σ Λ μ) (h : RW 48 μ r μ') : TX σ Λ μ' ∧ Fx μ μ' := by
  have F := h.1
  exact ⟨hI.sc F (fun p i k q => by unfold SC; omega) (fun p q => by rw [q]; rfl) (KP.fx F (fun p i k hp => by omega) (fun p hp => by omega)), Fx.fx F (fun p i k hp => by omega) (fun p hp => by omega)⟩
theorem O_judge {p kind wanted x : Int32} {u : Bool} (hI : TX σ Λ μ) (hC : CT σ) (h : ∀ r μ', TX (pJudge σ Λ p kind wanted u x).1 Λ μ' → Fx μ μ' → XR [40, 38, 41] (pJudge σ Λ p kind wanted u x).2.1 (rI (pJudge σ Λ p kind wanted u x).2.2) r → Q r μ') : Ct RX1 cX1_judge (8, some .int, [], false, rmm 404 4 24) [vr 1 0, vi p, vi kind, vi wanted, vi (bI u), vi x] μ Q := by
  refine Ct.of (ls := [some (vr 1 0), some (vi p), some (vi kind), some (vi wanted), some (vi (bI u)), some (vi x), none, none]) rfl fun Γ C ad => ?_
  have hX := hI.1
  have hR := hI.2.1
  have np := hC.np
  unfold pJudge at h
  by_cases h1 : isP σ p
  · obtain ⟨j, hj, e⟩ := hC.isP h1
    have tj : tn p = j := by rw [e, tn_nI (by omega)]
    rw [if_neg (nn h1), tj] at h
    by_cases h2 : isK σ kind wanted
    · rw [if_neg (nn h2)] at h
      by_cases h3 : 0 ≤ x ∧ x ≤ 5
      · rw [if_neg (nn h3)] at h
        obtain ⟨k, hk, ek⟩ := in_nI (n := 5) h3 rfl
        subst ek
        match k, hk with
        | 0, _ =>
          refine z_aload0 dX1_judge_0 (z_iload1 dX1_judge_1 (z_invV1 (md_X1_personAt _) cv_X1_201 rfl dX1_judge_2 rfl (Nat.le_of_ble_eq_true rfl) (Rm.ofB rfl) (X_personT hX hR h1 e hj np (z_astore6 dX1_judge_5 (z_aload0 dX1_judge_7 (z_iload2 dX1_judge_8 (z_iload3 dX1_judge_9 (z_invV2 (md_X1_isAsked _) cv_X1_245 rfl dX1_judge_10 rfl (Nat.le_of_ble_eq_true rfl) (Rm.ofB rfl) (X_askedT hX hR h2 (z_aload0 dX1_judge_13 (z_iload1 dX1_judge_14 (z_iload2 dX1_judge_15 (z_iload3 dX1_judge_16 (z_iload4 dX1_judge_17 (z_invV4 (md_X1_ruling _) cv_X1_249 rfl dX1_judge_19 rfl (Nat.le_of_ble_eq_true rfl) (Rm.ofB rfl) (X_ruling (P := 48) (Λ := Λ) rfl (Or.inr rfl) hX.xq hR hI.2.2.1 e hj np hC.2.2.2.2.1.1 hC.nb hC.1.1 hC.ng (fun μ2 hW => ?_)))))))))))))))))
          obtain ⟨t2, x2⟩ := hI.rw48 hW
          refine z_astore7 dX1_judge_22 (z_iload5 dX1_judge_24 (z_tabIn 64 dX1_judge_26 (by decide) (by decide) rfl (by decide) (z_aload7 dX1_judge_64 (z_getIv fl_X1_252 dX1_judge_66 rfl rfl (hW.2.2.1) (z_ireturn dX1_judge_69 rfl (Nat.le_of_ble_eq_true rfl) (Nat.le_of_ble_eq_true rfl) ?_)))))
          exact h _ μ2 t2 x2 XR.ok
        | 1, _ =>
          refine z_aload0 dX1_judge_0 (z_iload1 dX1_judge_1 (z_invV1 (md_X1_personAt _) cv_X1_201 rfl dX1_judge_2 rfl (Nat.le_of_ble_eq_true rfl) (Rm.ofB rfl) (X_personT hX hR h1 e hj np (z_astore6 dX1_judge_5 (z_aload0 dX1_judge_7 (z_iload2 dX1_judge_8 (z_iload3 dX1_judge_9 (z_invV2 (md_X1_isAsked _) cv_X1_245 rfl dX1_judge_10 rfl (Nat.le_of_ble_eq_true rfl) (Rm.ofB rfl) (X_askedT hX hR h2 (z_aload0 dX1_judge_13 (z_iload1 dX1_judge_14 (z_iload2 dX1_judge_15 (z_iload3 dX1_judge_16 (z_iload4 dX1_judge_17 (z_invV4 (md_X1_ruling _) cv_X1_249 rfl dX1_judge_19 rfl (Nat.le_of_ble_eq_true rfl) (Rm.ofB rfl) (X_ruling (P := 48) (Λ := Λ) rfl (Or.inr rfl) hX.xq hR hI.2.2.1 e hj np hC.2.2.2.2.1.1 hC.nb hC.1.1 hC.ng (fun μ2 hW => ?_)))))))))))))))))
          obtain ⟨t2, x2⟩ := hI.rw48 hW
          refine z_astore7 dX1_judge_22 (z_iload5 dX1_judge_24 (z_tabIn 70 dX1_judge_26 (by decide) (by decide) rfl (by decide) (z_aload7 dX1_judge_70 (z_getIv fl_X1_255 dX1_judge_72 rfl rfl (hW.2.2.2.1) (z_ireturn dX1_judge_75 rfl (Nat.le_of_ble_eq_true rfl) (Nat.le_of_ble_eq_true rfl) ?_)))))
          exact h _ μ2 t2 x2 XR.ok
        | 2, _ =>
          refine z_aload0 dX1_judge_0 (z_iload1 dX1_judge_1 (z_invV1 (md_X1_personAt _) cv_X1_201 rfl dX1_judge_2 rfl (Nat.le_of_ble_eq_true rfl) (Rm.ofB rfl) (X_personT hX hR h1 e hj np (z_astore6 dX1_judge_5 (z_aload0 dX1_judge_7 (z_iload2 dX1_judge_8 (z_iload3 dX1_judge_9 (z_invV2 (md_X1_isAsked _) cv_X1_245 rfl dX1_judge_10 rfl (Nat.le_of_ble_eq_true rfl) (Rm.ofB rfl) (X_askedT hX hR h2 (z_aload0 dX1_judge_13 (z_iload1 dX1_judge_14 (z_iload2 dX1_judge_15 (z_iload3 dX1_judge_16 (z_iload4 dX1_judge_17 (z_invV4 (md_X1_ruling _) cv_X1_249 rfl dX1_judge_19 rfl (Nat.le_of_ble_eq_true rfl) (Rm.ofB rfl) (X_ruling (P := 48) (Λ := Λ) rfl (Or.inr rfl) hX.xq hR hI.2.2.1 e hj np hC.2.2.2.2.1.1 hC.nb hC.1.1 hC.ng (fun μ2 hW => ?_)))))))))))))))))
          obtain ⟨t2, x2⟩ := hI.rw48 hW
          refine z_astore7 dX1_judge_22 (z_iload5 dX1_judge_24 (z_tabIn 76 dX1_judge_26 (by decide) (by decide) rfl (by decide) (z_aload7 dX1_judge_76 (z_getIv fl_X1_258 dX1_judge_78 rfl rfl (hW.2.2.2.2.1) (z_ireturn dX1_judge_81 rfl (Nat.le_of_ble_eq_true rfl) (Nat.le_of_ble_eq_true rfl) ?_)))))
          exact h _ μ2 t2 x2 XR.ok
        | 3, _ =>
          refine z_aload0 dX1_judge_0 (z_iload1 dX1_judge_1 (z_invV1 (md_X1_personAt _) cv_X1_201 rfl dX1_judge_2 rfl (Nat.le_of_ble_eq_true rfl) (Rm.ofB rfl) (X_personT hX hR h1 e hj np (z_astore6 dX1_judge_5 (z_aload0 dX1_judge_7 (z_iload2 dX1_judge_8 (z_iload3 dX1_judge_9 (z_invV2 (md_X1_isAsked _) cv_X1_245 rfl dX1_judge_10 rfl (Nat.le_of_ble_eq_true rfl) (Rm.ofB rfl) (X_askedT hX hR h2 (z_aload0 dX1_judge_13 (z_iload1 dX1_judge_14 (z_iload2 dX1_judge_15 (z_iload3 dX1_judge_16 (z_iload4 dX1_judge_17 (z_invV4 (md_X1_ruling _) cv_X1_249 rfl dX1_judge_19 rfl (Nat.le_of_ble_eq_true rfl) (Rm.ofB rfl) (X_ruling (P := 48) (Λ := Λ) rfl (Or.inr rfl) hX.xq hR hI.2.2.1 e hj np hC.2.2.2.2.1.1 hC.nb hC.1.1 hC.ng (fun μ2 hW => ?_)))))))))))))))))
          obtain ⟨t2, x2⟩ := hI.rw48 hW
          refine z_astore7 dX1_judge_22 (z_iload5 dX1_judge_24 (z_tabIn 82 dX1_judge_26 (by decide) (by decide) rfl (by decide) (z_aload7 dX1_judge_82 (z_getIv fl_X1_229 dX1_judge_84 rfl rfl (hW.2.2.2.2.2.1) (z_ireturn dX1_judge_87 rfl (Nat.le_of_ble_eq_true rfl) (Nat.le_of_ble_eq_true rfl) ?_)))))
          exact h _ μ2 t2 x2 XR.ok
        | 4, _ =>
          refine z_aload0 dX1_judge_0 (z_iload1 dX1_judge_1 (z_invV1 (md_X1_personAt _) cv_X1_201 rfl dX1_judge_2 rfl (Nat.le_of_ble_eq_true rfl) (Rm.ofB rfl) (X_personT hX hR h1 e hj np (z_astore6 dX1_judge_5 (z_aload0 dX1_judge_7 (z_iload2 dX1_judge_8 (z_iload3 dX1_judge_9 (z_invV2 (md_X1_isAsked _) cv_X1_245 rfl dX1_judge_10 rfl (Nat.le_of_ble_eq_true rfl) (Rm.ofB rfl) (X_askedT hX hR h2 (z_aload0 dX1_judge_13 (z_iload1 dX1_judge_14 (z_iload2 dX1_judge_15 (z_iload3 dX1_judge_16 (z_iload4 dX1_judge_17 (z_invV4 (md_X1_ruling _) cv_X1_249 rfl dX1_judge_19 rfl (Nat.le_of_ble_eq_true rfl) (Rm.ofB rfl) (X_ruling (P := 48) (Λ := Λ) rfl (Or.inr rfl) hX.xq hR hI.2.2.1 e hj np hC.2.2.2.2.1.1 hC.nb hC.1.1 hC.ng (fun μ2 hW => ?_)))))))))))))))))
          obtain ⟨t2, x2⟩ := hI.rw48 hW
          rcases rul_see σ Λ j kind wanted u with q | q
          · refine z_astore7 dX1_judge_22 (z_iload5 dX1_judge_24 (z_tabIn 88 dX1_judge_26 (by decide) (by decide) rfl (by decide) (z_aload7 dX1_judge_88 (z_getIv fl_X1_226 dX1_judge_90 rfl rfl (hW.2.2.2.2.2.2.2) (z_if_eq 100 dX1_judge_93 (by decide) (fun _ => z_iconst (v := 0) dX1_judge_100 (by decide) (z_ireturn dX1_judge_101 rfl (Nat.le_of_ble_eq_true rfl) (Nat.le_of_ble_eq_true rfl) ?_)) (fun c => absurd (q) c))))))
            refine h _ μ2 t2 x2 ?_
            show XR _ 0 (rI (rulF σ Λ j kind wanted u).2.2.2.2.2) _
            rw [q]
            exact XR.ok
          · refine z_astore7 dX1_judge_22 (z_iload5 dX1_judge_24 (z_tabIn 88 dX1_judge_26 (by decide) (by decide) rfl (by decide) (z_aload7 dX1_judge_88 (z_getIv fl_X1_226 dX1_judge_90 rfl rfl (hW.2.2.2.2.2.2.2) (z_if_eq 100 dX1_judge_93 (by decide) (fun c => absurd c ((by rw [q]; decide))) (fun _ => z_iconst (v := 1) dX1_judge_96 (by decide) (z_goto 101 dX1_judge_97 (by decide) (z_ireturn dX1_judge_101 rfl (Nat.le_of_ble_eq_true rfl) (Nat.le_of_ble_eq_true rfl) ?_))))))))
            refine h _ μ2 t2 x2 ?_
            show XR _ 0 (rI (rulF σ Λ j kind wanted u).2.2.2.2.2) _
            rw [q]
            exact XR.ok
        | 5, _ =>
          refine z_aload0 dX1_judge_0 (z_iload1 dX1_judge_1 (z_invV1 (md_X1_personAt _) cv_X1_201 rfl dX1_judge_2 rfl (Nat.le_of_ble_eq_true rfl) (Rm.ofB rfl) (X_personT hX hR h1 e hj np (z_astore6 dX1_judge_5 (z_aload0 dX1_judge_7 (z_iload2 dX1_judge_8 (z_iload3 dX1_judge_9 (z_invV2 (md_X1_isAsked _) cv_X1_245 rfl dX1_judge_10 rfl (Nat.le_of_ble_eq_true rfl) (Rm.ofB rfl) (X_askedT hX hR h2 (z_aload0 dX1_judge_13 (z_iload1 dX1_judge_14 (z_iload2 dX1_judge_15 (z_iload3 dX1_judge_16 (z_iload4 dX1_judge_17 (z_invV4 (md_X1_ruling _) cv_X1_249 rfl dX1_judge_19 rfl (Nat.le_of_ble_eq_true rfl) (Rm.ofB rfl) (X_ruling (P := 48) (Λ := Λ) rfl (Or.inr rfl) hX.xq hR hI.2.2.1 e hj np hC.2.2.2.2.1.1 hC.nb hC.1.1 hC.ng (fun μ2 hW => ?_)))))))))))))))))
          obtain ⟨t2, x2⟩ := hI.rw48 hW
          refine z_astore7 dX1_judge_22 (z_iload5 dX1_judge_24 (z_tabIn 102 dX1_judge_26 (by decide) (by decide) rfl (by decide) (z_aload7 dX1_judge_102 (z_getIv fl_X1_261 dX1_judge_104 rfl rfl (hW.2.2.2.2.2.2.1) (z_ireturn dX1_judge_107 rfl (Nat.le_of_ble_eq_true rfl) (Nat.le_of_ble_eq_true rfl) ?_)))))
          exact h _ μ2 t2 x2 XR.ok
        | k + 6, hk => omega
      · rw [if_pos h3] at h
        have hout : x.toInt < 0 ∨ 5 < x.toInt := by
          by_cases q : 0 ≤ x
          · exact Or.inr (Int32.lt_iff_toInt_lt.mp (Int32.not_le.mp fun z => h3 ⟨q, z⟩))
          · exact Or.inl (by simpa using Int32.lt_iff_toInt_lt.mp (Int32.not_le.mp q))
        refine z_aload0 dX1_judge_0 (z_iload1 dX1_judge_1 (z_invV1 (md_X1_personAt _) cv_X1_201 rfl dX1_judge_2 rfl (Nat.le_of_ble_eq_true rfl) (Rm.ofB rfl) (X_personT hX hR h1 e hj np (z_astore6 dX1_judge_5 (z_aload0 dX1_judge_7 (z_iload2 dX1_judge_8 (z_iload3 dX1_judge_9 (z_invV2 (md_X1_isAsked _) cv_X1_245 rfl dX1_judge_10 rfl (Nat.le_of_ble_eq_true rfl) (Rm.ofB rfl) (X_askedT hX hR h2 (z_aload0 dX1_judge_13 (z_iload1 dX1_judge_14 (z_iload2 dX1_judge_15 (z_iload3 dX1_judge_16 (z_iload4 dX1_judge_17 (z_invV4 (md_X1_ruling _) cv_X1_249 rfl dX1_judge_19 rfl (Nat.le_of_ble_eq_true rfl) (Rm.ofB rfl) (X_ruling (P := 48) (Λ := Λ) rfl (Or.inr rfl) hX.xq hR hI.2.2.1 e hj np hC.2.2.2.2.1.1 hC.nb hC.1.1 hC.ng (fun μ2 hW => ?_)))))))))))))))))
        obtain ⟨t2, x2⟩ := hI.rw48 hW
        refine z_astore7 dX1_judge_22 (z_iload5 dX1_judge_24 (z_tabOut 108 dX1_judge_26 hout (by decide) ?_))
        refine z_exc 41 ex_X1_264_266 dX1_judge_108 dX1_judge_111 dX1_judge_112 rfl (by decide) rfl (by decide) (by decide) (by decide) (by decide) (z_athrow dX1_judge_115 rfl (by decide) (by decide) ?_)
        have q := FX.exc (μ := μ2) (p := 41) (by decide) (by decide)
        exact h _ _ (t2.exc q) (x2.tr (Fx.exc q)) XR.e3
    · rw [if_pos h2] at h
      refine z_aload0 dX1_judge_0 (z_iload1 dX1_judge_1 (z_invV1 (md_X1_personAt _) cv_X1_201 rfl dX1_judge_2 rfl (Nat.le_of_ble_eq_true rfl) (Rm.ofB rfl) (X_personT hX hR h1 e hj np (z_astore6 dX1_judge_5 (z_aload0 dX1_judge_7 (z_iload2 dX1_judge_8 (z_iload3 dX1_judge_9 (z_invV2 (md_X1_isAsked _) cv_X1_245 rfl dX1_judge_10 rfl (Nat.le_of_ble_eq_true rfl) (Rm.ofB rfl) (X_askedF hX hR h2 ?_)))))))))
      exact fun μ' i q => ⟨rfl, h _ _ (hI.exc q) (Fx.exc q) XR.e2⟩
  · rw [if_pos h1] at h
    refine z_aload0 dX1_judge_0 (z_iload1 dX1_judge_1 (z_invV1 (md_X1_personAt _) cv_X1_201 rfl dX1_judge_2 rfl (Nat.le_of_ble_eq_true rfl) (Rm.ofB rfl) (X_personF hR h1 ?_)))
    exact fun μ' i q => ⟨rfl, h _ _ (hI.exc q) (Fx.exc q) XR.e1⟩
end O15
