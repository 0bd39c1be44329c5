/-! the Office: the work of the press -/
theorem prin_70 (m : Bool) (σ : Sg) (a : Nat) : prinF m σ a 7 0 = σ 7 0 := by
  unfold prinF
  split
  · rw [gets_7 m _ a 0 (by decide)]
    simp only [up2_eq]
    rw [if_neg (by simp), if_neg (by simp), if_neg (by simp), if_neg (by simp), book_ne (by omega)]
  · simp only [up2_eq]
    rw [if_neg (by simp), if_neg (by simp), if_neg (by simp), if_neg (by simp), if_neg (by simp), book_ne (by omega)]
theorem canP_off {σ : Sg} (h0 : 0 ≤ σ 7 1) {b : Nat} (hb : σ 7 4 = nI b) (hb2 : b ≤ 150) : canP σ = false ↔ brokB σ (σ 7 0) = true ∨ σ 7 1 = 0 ∨ σ 7 4 = 150 := by
  unfold canP
  cases h1 : brokB σ (σ 7 0) with
  | true => simp
  | false =>
    by_cases h2 : σ 7 1 = 0
    · simp [h2]
    · have h3 : 0 < σ 7 1 := by
        have a1 := ti_le.mp h0
        have z0 : (0 : Int32).toInt = 0 := rfl
        have a2 : (σ 7 1).toInt ≠ 0 := fun q => h2 (Int32.toInt_inj.mp q)
        exact ti_lt.mpr (by omega)
      by_cases h4 : σ 7 4 = 150
      · simp [h4]
      · have h5 : σ 7 4 < 150 := by
          rw [hb] at h4 ⊢
          refine (nI_ltI (a := b) (b := 150) (by omega) (by decide)).mpr ?_
          have : b ≠ 150 := fun q => h4 (by rw [q]; rfl)
          omega
        simp [h2, h3, h4, h5]
section X8
variable {np na nl nb ng w : Nat} {μ μ' : Mem} {σ : Sg} {Q : Res → Mem → Prop} {m : Bool}
theorem X_work3 {r u : Int32} (hX : WX w np na nl nb ng σ μ) (hv : XMv w na μ) (hR : RepX w σ μ) (hw : w < 2) (hm : m = decide (w = 0)) (hP : PD σ na np nl) (hD : DY σ) (hB : SB σ na) (hr : r = 0 ∨ r = 1 ∨ r = 2) (h : ∀ μ', RepX w (wkS m 3 σ u (lineF σ 3 r)).1 μ' → WX w np na nl nb ng (wkS m 3 σ u (lineF σ 3 r)).1 μ' → XMv w na μ' → FX (SZ w) (TY w) μ μ' → Q (rI (wkS m 3 σ u (lineF σ 3 r)).2) μ') : Ct RX1 cX1_work (11, some .int, [], false, rmm 5 150 600) [vr 1 0, vr 4 w, vi 3, vi r, vi u] μ Q := by
  refine Ct.of (ls := [some (vr 1 0), some (vr 4 w), some (vi 3), some (vi r), some (vi u), none, none, none, none, none, none]) rfl fun Γ C ad => ?_
  have n120 := hP.1.2
  have en : tn (σ 34 2) = na := by rw [hP.1.1, tn_nI (by omega)]
  have hd4 : (3 : Int32) = 0 ∨ (3 : Int32) = 1 ∨ (3 : Int32) = 2 ∨ (3 : Int32) = 3 := by decide
  have hll : (lineF σ 3 r).length ≤ na := by rw [lineF, List.length_reverse, en]; exact lineS_len _ _ _ _
  obtain ⟨b0, hb0, hb02⟩ := hD.2.2.2.2
  have loop : ∀ (t pre : List Nat) (σ' : Sg) (u' : Int32) (μ' : Mem) (o1 o2 : Option AV) (b : Nat), lineF σ 3 r = pre ++ t → RepX w σ' μ' → WX w np na nl nb ng σ' μ' → XMv w na μ' → SameTh σ σ' → DY σ' → σ' 7 0 = σ 7 0 → σ' 7 4 = nI b → b0 ≤ b → b ≤ 150 → FX (SZ w) (TY w) μ μ' → rowIs (gI μ' 20 0) (lineF σ 3 r) →
      (∀ μ2, RepX w (wkS m 3 σ' u' t).1 μ2 → WX w np na nl nb ng (wkS m 3 σ' u' t).1 μ2 → XMv w na μ2 → FX (SZ w) (TY w) μ μ2 → Q (rI (wkS m 3 σ' u' t).2) μ2) →
      Z RX1 cX1_work (11, some .int, [], false, rmm 5 150 600) (Γ, C, μ, ad, Q) (b - b0) (4 * (b - b0)) μ' 41 [some (vr 1 0), some (vr 4 w), some (vi 3), some (vi r), some (vi u), some (vi u'), some (vi (nI (lineF σ 3 r).length)), some (vi (bI (!brokB σ (σ 7 0)))), some (vi (nI pre.length)), o1, o2] [] := by
    intro t
    induction t with
    | nil =>
      intro pre σ' u' μ' o1 o2 b e hR' hX' hv' hT hD' e70 hb hb1 hb2 hF hrow hq
      rw [List.append_nil] at e
      refine z_widen (show b - b0 ≤ 150 by omega) (show 4 * (b - b0) ≤ 600 by omega) ?_
      refine z_iload8 dX1_work_41 (z_iload6 dX1_work_43 (z_icmp_ge 125 dX1_work_45 (by decide) (fun _ => z_iload5 dX1_work_125 (z_ireturn dX1_work_127 rfl (Nat.le_of_ble_eq_true rfl) (Nat.le_of_ble_eq_true rfl) ?_)) (fun c => absurd ((by rw [e]; exact Int32.le_refl _)) c)))
      exact hq μ' hR' hX' hv' hF
    | cons a t iht =>
      intro pre σ' u' μ' o1 o2 b e hR' hWX' hv' hT hD' e70 hb hb1 hb2 hF hrow hq
      obtain ⟨nb', hX', hbw, hbw1, hbw2⟩ := hWX'
      have hP' := hP.th hT
      have ham : a ∈ lineF σ 3 r := by rw [e]; exact List.mem_append_right _ List.mem_cons_self
      have han : a < na := by rw [← en]; exact lineF_lt ham
      have hlen : (lineF σ 3 r).length = pre.length + (t.length + 1) := by rw [e, List.length_append, List.length_cons]
      have erow : gI μ' 20 0 pre.length = nI a := by
        rw [hrow pre.length (by omega), e, getD_appR (Nat.le_refl _), Nat.sub_self]
        rfl
      have hlt : ¬ nI (lineF σ 3 r).length ≤ nI pre.length := nI_ge (by omega) (by omega)
      have e1 : wkS m 3 σ' u' (a :: t) = if u' < costF σ' 3 a ∨ ((3 : Int32) = 3 ∧ canP σ' = false) then (σ', u') else wkS m 3 (doesF m σ' 3 a) (u' - costF σ' 3 a) t := rfl
      have ix : Ix (nI pre.length) pre.length 120 := ⟨rfl, by omega, by decide⟩
      obtain ⟨p, hp1, hp2⟩ := hP'.2.2.2.1 a han
      have off := canP_off hD'.2.1 hb hb2
      have ebr : brokB σ' (σ' 7 0) = brokB σ (σ 7 0) := by unfold brokB; rw [e70, hT 34 10 (by omega), hT 34 11 (by omega)]
      rw [ebr] at off
      have stopz : (u' < costF σ' 3 a ∨ ((3 : Int32) = 3 ∧ canP σ' = false)) → Z RX1 cX1_work (11, some .int, [], false, rmm 5 150 600) (Γ, C, μ, ad, Q) (b - b0) (4 * (b - b0)) μ' 125 [some (vr 1 0), some (vr 4 w), some (vi 3), some (vi r), some (vi u), some (vi u'), some (vi (nI (lineF σ 3 r).length)), some (vi (bI (!brokB σ (σ 7 0)))), some (vi (nI pre.length)), some (vi (nI a)), some (vi (costF σ' 3 a))] [] := by
        intro hc
        rw [e1, if_pos hc] at hq
        refine z_widen (show b - b0 ≤ 150 by omega) (show 4 * (b - b0) ≤ 600 by omega) ?_
        refine z_iload5 dX1_work_125 (z_ireturn dX1_work_127 rfl (Nat.le_of_ble_eq_true rfl) (Nat.le_of_ble_eq_true rfl) ?_)
        exact hq μ' hR' ⟨nb', hX', hbw, hbw1, hbw2⟩ hv' hF
      refine z_iload8 dX1_work_41 (z_iload6 dX1_work_43 (z_icmp_ge 125 dX1_work_45 (by decide) (fun c => absurd c (hlt)) (fun _ => z_aload0 dX1_work_48 (z_getP fl_X1_65 dX1_work_49 rfl rfl (hX'.f1 10 (by decide)) (z_iload8 dX1_work_52 (z_ialdv dX1_work_54 rfl ix (erow) (z_istore9 dX1_work_55 (z_aload0 dX1_work_57 (z_aload1 dX1_work_58 (z_iload2 dX1_work_59 (z_iload9 dX1_work_60 (z_invV3 (md_X1_costs _) cv_X1_394 rfl dX1_work_62 rfl (Nat.le_of_ble_eq_true rfl) (Rm.gn (by decide) (leB rfl) (by omega) (by omega)) (X_costs hX' hv' hR' hw rfl han n120 (hD'.2.2.1 a) hd4 (z_istore10 dX1_work_65 (z_iload10 dX1_work_67 (z_iload5 dX1_work_69 (z_icmp_gt 125 dX1_work_71 (by decide) (fun c_71 => ?_) (fun c_71 => ?_))))))))))))))))))
      · exact stopz (Or.inl c_71)
      · by_cases hc : canP σ' = false
        · have st := stopz (Or.inr ⟨rfl, hc⟩)
          rcases off.mp hc with q | q
          · rw [q] at st ⊢
            refine z_iload2 dX1_work_74 (z_iconst (v := 3) dX1_work_75 (by decide) (z_icmp_ne 104 dX1_work_76 (by decide) (fun c => absurd (rfl) c) (fun _ => z_iload7 dX1_work_79 (z_if_eq 125 dX1_work_81 (by decide) (fun _ => ?_) (fun c => absurd (rfl) c)))))
            exact st
          · by_cases hbk : brokB σ (σ 7 0) = true
            · rw [hbk] at st ⊢
              refine z_iload2 dX1_work_74 (z_iconst (v := 3) dX1_work_75 (by decide) (z_icmp_ne 104 dX1_work_76 (by decide) (fun c => absurd (rfl) c) (fun _ => z_iload7 dX1_work_79 (z_if_eq 125 dX1_work_81 (by decide) (fun _ => ?_) (fun c => absurd (rfl) c)))))
              exact st
            · have hbk' : brokB σ (σ 7 0) = false := Bool.not_eq_true _ ▸ hbk
              rw [hbk'] at st ⊢
              by_cases q1 : σ' 7 1 = 0
              · refine z_iload2 dX1_work_74 (z_iconst (v := 3) dX1_work_75 (by decide) (z_icmp_ne 104 dX1_work_76 (by decide) (fun c => absurd (rfl) c) (fun _ => z_iload7 dX1_work_79 (z_if_eq 125 dX1_work_81 (by decide) (fun c => absurd c ((by decide))) (fun _ => z_aload1 dX1_work_84 (z_getIv fl_X1_353 dX1_work_85 rfl rfl (hR'.wd 1 (by decide)) (z_if_eq 125 dX1_work_88 (by decide) (fun _ => ?_) (fun c => absurd (q1) c))))))))
                exact st
              · refine z_iload2 dX1_work_74 (z_iconst (v := 3) dX1_work_75 (by decide) (z_icmp_ne 104 dX1_work_76 (by decide) (fun c => absurd (rfl) c) (fun _ => z_iload7 dX1_work_79 (z_if_eq 125 dX1_work_81 (by decide) (fun c => absurd c ((by decide))) (fun _ => z_aload1 dX1_work_84 (z_getIv fl_X1_353 dX1_work_85 rfl rfl (hR'.wd 1 (by decide)) (z_if_eq 125 dX1_work_88 (by decide) (fun c => absurd c (q1)) (fun _ => z_aload1 dX1_work_91 (z_getIv fl_X1_167 dX1_work_92 rfl rfl (hR'.wd 4 (by decide)) (z_sipush (v := 150) dX1_work_95 (by decide) (z_icmp_ne 104 dX1_work_98 (by decide) (fun c => absurd ((q.resolve_left q1)) c) (fun _ => z_goto 125 dX1_work_101 (by decide) ?_))))))))))))
                exact st
        · have hcp : canP σ' = true := by
            cases hz : canP σ' with
            | true => rfl
            | false => exact absurd hz hc
          obtain ⟨hc1, hc2⟩ := canP_bl hcp
          have hb150 : b < 150 := by rw [hb] at hc2; exact (nI_ltI (a := b) (b := 150) (by omega) (by decide)).mp hc2
          have nof := fun q => hc (off.mpr q)
          have hbk' : brokB σ (σ 7 0) = false := by
            cases hz : brokB σ (σ 7 0) with
            | true => exact absurd (Or.inl hz) nof
            | false => rfl
          rw [e1, if_neg (fun q => q.elim c_71 (fun q => hc q.2))] at hq
          have go : Z RX1 cX1_work (11, some .int, [], false, rmm 5 150 600) (Γ, C, μ, ad, Q) (b - b0) (4 * (b - b0)) μ' 104 [some (vr 1 0), some (vr 4 w), some (vi 3), some (vi r), some (vi u), some (vi u'), some (vi (nI (lineF σ 3 r).length)), some (vi (bI (!brokB σ (σ 7 0)))), some (vi (nI pre.length)), some (vi (nI a)), some (vi (costF σ' 3 a))] [] := by
            refine z_iload5 dX1_work_104 (z_iload10 dX1_work_106 (z_isub dX1_work_108 (z_istore5 dX1_work_109 (z_aload0 dX1_work_111 (z_aload1 dX1_work_112 (z_iload2 dX1_work_113 (z_iload9 dX1_work_114 (z_invV3 (md_X1_does _) cv_X1_397 rfl dX1_work_116 rfl (Nat.le_of_ble_eq_true rfl) (Rm.gn (by decide) (leB rfl) (show b - b0 + 1 ≤ 150 by omega) (show 4 * (b - b0) + 4 ≤ 600 by omega)) (X_does3 hX' hv' hR' hw hm rfl han n120 (hB.th hT) hD'.1 hp2 hp1 hP'.2.1.2 hb hb150 (fun q => by have := hbw q; rw [hb] at this; exact (nI_eq (by omega) (by omega)).mp this) (fun μ2 hR2 hX2 hv2 hF2 => ?_))))))))))
            refine z_iinc8 dX1_work_119 (inc1 pre.length) (z_goto 41 dX1_work_122 (by decide) ?_)
            have := iht (pre ++ [a]) _ _ μ2 (some (vi (nI a))) (some (vi (costF σ' 3 a))) (b + 1) (by rw [e, List.append_assoc]; rfl) hR2 ⟨_, hX2, fun q => by rw [if_pos q]; show prinF m σ' a 7 4 = _; rw [prin_74, hbw q, nI_1], fun q => by rw [if_neg q]; exact hbw1 q, by split; (have := hbw ‹_›; rw [hb] at this; have := (nI_eq (by omega) (by omega)).mp this; omega); omega⟩ hv2 (hT.tr (th_does m σ' 3 a)) (dy_does m hD' hd4 a (fun _ => hcp)) ((prin_70 m σ' a).trans e70) (by show prinF m σ' a 7 4 = _; rw [prin_74, hb, nI_1]) (by omega) (by omega) (hF.tr hF2.z) (row20 hw hrow hF2) hq
            rw [List.length_append, List.length_singleton] at this
            rw [show b + 1 - b0 = b - b0 + 1 by omega, show 4 * (b - b0 + 1) = 4 * (b - b0) + 4 by omega] at this
            exact this
          rw [hbk'] at go ⊢
          refine z_iload2 dX1_work_74 (z_iconst (v := 3) dX1_work_75 (by decide) (z_icmp_ne 104 dX1_work_76 (by decide) (fun c => absurd (rfl) c) (fun _ => z_iload7 dX1_work_79 (z_if_eq 125 dX1_work_81 (by decide) (fun c => absurd c ((by decide))) (fun _ => z_aload1 dX1_work_84 (z_getIv fl_X1_353 dX1_work_85 rfl rfl (hR'.wd 1 (by decide)) (z_if_eq 125 dX1_work_88 (by decide) (fun c => absurd c ((fun q => nof (Or.inr (Or.inl q))))) (fun _ => z_aload1 dX1_work_91 (z_getIv fl_X1_167 dX1_work_92 rfl rfl (hR'.wd 4 (by decide)) (z_sipush (v := 150) dX1_work_95 (by decide) (z_icmp_ne 104 dX1_work_98 (by decide) (fun _ => ?_) (fun c => absurd c ((fun q => nof (Or.inr (Or.inr q))))))))))))))))
          exact go
  have begin_ : ∀ (b : Int32) (μ1 : Mem), b = bI (!brokB σ (σ 7 0)) → Dif S20 μ μ1 → rowIs (gI μ1 20 0) (lineF σ 3 r) → Z RX1 cX1_work (11, some .int, [], false, rmm 5 150 600) (Γ, C, μ, ad, Q) (0) (0) (μ1) 36 [some (vr 1 0), some (vr 4 w), some (vi 3), some (vi r), some (vi u), some (vi u), some (vi (nI (lineF σ 3 r).length)), none, none, none, none] [vi b] := by
    intro b μ1 eb hD1 hr1
    subst eb
    refine z_istore7 dX1_work_36 (z_iconst (v := 0) dX1_work_38 (by decide) (z_istore8 dX1_work_39 ?_))
    have := loop _ [] σ u μ1 none none b0 rfl (hR.d20 hw hD1) (by obtain ⟨x, y, z⟩ := hX; exact ⟨x, y.of hD1.1, z⟩) (hv.of hD1.1) SameTh.rf hD rfl hb0 (Nat.le_refl _) hb02 (FX.z20 hD1) hr1 h
    rw [Nat.sub_self] at this
    exact this
  obtain ⟨nb', hX0, hbw, hbw1, hbw2⟩ := hX
  refine z_iload4 dX1_work_0 (z_istore5 dX1_work_2 (z_aload0 dX1_work_4 (z_aload1 dX1_work_5 (z_iload2 dX1_work_6 (z_iload3 dX1_work_7 (z_invV3 (md_X1_line _) cv_X1_370 rfl dX1_work_8 rfl (Nat.le_of_ble_eq_true rfl) (Rm.ofB rfl) (X_line hX0 hv hR hw hP.1.1 n120 hd4 hr hP.2.2.2.2 (fun μ1 hD1 hr1 => ?_))))))))
  have hR1 := hR.d20 hw hD1
  refine z_istore6 dX1_work_11 (z_aload1 dX1_work_13 (z_getIv fl_X1_140 dX1_work_14 rfl rfl (hR1.wd 0 (by decide)) (z_aload0 dX1_work_17 (z_getIv fl_X1_90 dX1_work_18 rfl rfl (hR1.t 10 (by decide)) (z_aload0 dX1_work_21 (z_getIv fl_X1_93 dX1_work_22 rfl rfl (hR1.t 11 (by decide)) (z_invS3 (md_X1_isIn _) cs_X1_114 dX1_work_25 rfl (Nat.le_of_ble_eq_true rfl) (Rm.ofB rfl) (X_isIn (z_if_ne 35 dX1_work_28 (by decide) (fun c_28 => ?_) (fun c_28 => ?_))))))))))
  · refine z_iconst (v := 0) dX1_work_35 (by decide) ?_
    exact begin_ _ μ1 (by rw [brokB, bI_n0 c_28]; rfl) hD1 hr1
  · refine z_iconst (v := 1) dX1_work_31 (by decide) (z_goto 36 dX1_work_32 (by decide) ?_)
    exact begin_ _ μ1 (by rw [brokB, bI_0.mp c_28]; rfl) hD1 hr1
end X8
