/-! the Office: a step of a desk, the line at a desk -/
section X6
variable {np na nl nb ng w : Nat} {μ μ' : Mem} {σ : Sg} {Q : Res → Mem → Prop} {m : Bool}
theorem X_does012 {a p : Nat} {x d : Int32} (hX : XP np na nl nb ng μ) (hv : XMv w na μ) (hR : RepX w σ μ) (hw : w < 2) (hx : x = nI a) (ha : a < na) (hn : na ≤ 120) (hp : σ 12 a = nI p) (hp2 : p < np) (hnp : σ 34 1 = nI np) (hnp2 : np ≤ 80) (hd : d = 0 ∨ d = 1 ∨ d = 2) (h : ∀ μ', RepX w (doesF m σ d a) μ' → μ'.2 = μ.2 → FX (SY w) (TY w) μ μ' → Q rV μ') : Ct RX1 cX1_does (6, none, [], false, rmm 4 0 0) [vr 1 0, vr 4 w, vi d, vi x] μ Q := by
  refine Ct.of (ls := [some (vr 1 0), some (vr 4 w), some (vi d), some (vi x), none, none]) rfl fun Γ C ad => ?_
  have ha2 : a < 120 := by omega
  unfold doesF at h
  rcases hd with rfl | rfl | rfl
  · rw [if_pos rfl] at h
    have R1 : RepX w (up2 σ 2 a (σ 7 0)) (sI μ (34 + w) a 3 (σ 7 0)) := hR.set hw 2 a _ (sX_col (by decide))
    have el : lackF (up2 σ 2 a (σ 7 0)) a = lackF σ a := rfl
    by_cases hl : lackF σ a = 0
    · rw [if_pos hl, if_pos hl] at h
      have R2 : RepX w (up2 (up2 σ 2 a (σ 7 0)) 0 a 2) (sI (sI μ (34 + w) a 3 (σ 7 0)) (34 + w) a 0 2) := R1.set hw 0 a _ (sX_col (by decide))
      refine z_aload1 dX1_does_0 (z_getP fl_X1_232 dX1_does_1 rfl rfl (hX.f4 _ hw) (z_iload3 dX1_does_4 (z_aald dX1_does_5 rfl (by decide) rfl ⟨hx, ha2, Nat.le_of_ble_eq_true rfl⟩ (hv a ha) (z_astore4 dX1_does_6 (z_iload2 dX1_does_8 (z_tabIn 36 dX1_does_9 (by decide) (by decide) rfl (by decide) (z_aload4 dX1_does_36 (z_aload1 dX1_does_38 (z_getIv fl_X1_140 dX1_does_39 rfl rfl (hR.wd 0 (by decide)) (z_putI fl_X1_320 dX1_does_42 (kdW hw) rfl ⟨rfl, rfl⟩ (z_aload0 dX1_does_45 (z_getP fl_X1_35 dX1_does_46 rfl rfl (hX.f1 4 (by decide)) (z_iload3 dX1_does_49 (z_aald dX1_does_50 rfl (by decide) rfl ⟨hx, ha2, Nat.le_of_ble_eq_true rfl⟩ (hX.as ha) (z_aload4 dX1_does_51 (z_invS2 (md_X1_lacks _) cs_X1_290 dX1_does_53 rfl (Nat.le_of_ble_eq_true rfl) (Rm.ofB rfl) (X_lacks (w' := w) (hX.of rfl) R1 hw ha (z_if_ne 63 dX1_does_56 (by decide) (fun c => absurd (hl) c) (fun _ => z_iconst (v := 1) dX1_does_59 (by decide) (z_goto 64 dX1_does_60 (by decide) (z_istore5 dX1_does_64 (z_aload4 dX1_does_66 (z_iload5 dX1_does_68 (z_if_eq 77 dX1_does_70 (by decide) (fun c => absurd c ((by decide))) (fun _ => z_iconst (v := 2) dX1_does_73 (by decide) (z_goto 78 dX1_does_74 (by decide) (z_putI fl_X1_236 dX1_does_78 (kdW hw) rfl ⟨rfl, rfl⟩ (z_aload4 dX1_does_81 (z_dupa dX1_does_83 (z_getIv fl_X1_326 dX1_does_84 (kdW hw) rfl (R2.q 5 a (by decide)) (z_iload5 dX1_does_87 (z_if_eq 96 dX1_does_89 (by decide) (fun c => absurd c ((by decide))) (fun _ => z_iconst (v := 0) dX1_does_92 (by decide) (z_goto 97 dX1_does_93 (by decide) (z_iadd dX1_does_97 (z_putI fl_X1_326 dX1_does_98 (kdW hw) rfl ⟨rfl, rfl⟩ (z_goto 137 dX1_does_101 (by decide) (z_return dX1_does_137 rfl (Nat.le_of_ble_eq_true rfl) (Nat.le_of_ble_eq_true rfl) ?_))))))))))))))))))))))))))))))))))))))
      exact h _ (R2.set hw 5 a _ (sX_col (by decide))) rfl (((FX.rf.wI (Or.inl rfl)).wI (Or.inl rfl)).wI (Or.inl rfl))
    · rw [if_neg hl, if_neg hl] at h
      have R2 : RepX w (up2 (up2 σ 2 a (σ 7 0)) 0 a 1) (sI (sI μ (34 + w) a 3 (σ 7 0)) (34 + w) a 0 1) := R1.set hw 0 a _ (sX_col (by decide))
      refine z_aload1 dX1_does_0 (z_getP fl_X1_232 dX1_does_1 rfl rfl (hX.f4 _ hw) (z_iload3 dX1_does_4 (z_aald dX1_does_5 rfl (by decide) rfl ⟨hx, ha2, Nat.le_of_ble_eq_true rfl⟩ (hv a ha) (z_astore4 dX1_does_6 (z_iload2 dX1_does_8 (z_tabIn 36 dX1_does_9 (by decide) (by decide) rfl (by decide) (z_aload4 dX1_does_36 (z_aload1 dX1_does_38 (z_getIv fl_X1_140 dX1_does_39 rfl rfl (hR.wd 0 (by decide)) (z_putI fl_X1_320 dX1_does_42 (kdW hw) rfl ⟨rfl, rfl⟩ (z_aload0 dX1_does_45 (z_getP fl_X1_35 dX1_does_46 rfl rfl (hX.f1 4 (by decide)) (z_iload3 dX1_does_49 (z_aald dX1_does_50 rfl (by decide) rfl ⟨hx, ha2, Nat.le_of_ble_eq_true rfl⟩ (hX.as ha) (z_aload4 dX1_does_51 (z_invS2 (md_X1_lacks _) cs_X1_290 dX1_does_53 rfl (Nat.le_of_ble_eq_true rfl) (Rm.ofB rfl) (X_lacks (w' := w) (hX.of rfl) R1 hw ha (z_if_ne 63 dX1_does_56 (by decide) (fun _ => z_iconst (v := 0) dX1_does_63 (by decide) (z_istore5 dX1_does_64 (z_aload4 dX1_does_66 (z_iload5 dX1_does_68 (z_if_eq 77 dX1_does_70 (by decide) (fun _ => z_iconst (v := 1) dX1_does_77 (by decide) (z_putI fl_X1_236 dX1_does_78 (kdW hw) rfl ⟨rfl, rfl⟩ (z_aload4 dX1_does_81 (z_dupa dX1_does_83 (z_getIv fl_X1_326 dX1_does_84 (kdW hw) rfl (R2.q 5 a (by decide)) (z_iload5 dX1_does_87 (z_if_eq 96 dX1_does_89 (by decide) (fun _ => z_iconst (v := 1) dX1_does_96 (by decide) (z_iadd dX1_does_97 (z_putI fl_X1_326 dX1_does_98 (kdW hw) rfl ⟨rfl, rfl⟩ (z_goto 137 dX1_does_101 (by decide) (z_return dX1_does_137 rfl (Nat.le_of_ble_eq_true rfl) (Nat.le_of_ble_eq_true rfl) ?_))))) (fun c => absurd (rfl) c)))))))) (fun c => absurd (rfl) c)))))) (fun c => absurd c (hl))))))))))))))))))))
      exact h _ (R2.set hw 5 a _ (sX_col (by decide))) rfl (((FX.rf.wI (Or.inl rfl)).wI (Or.inl rfl)).wI (Or.inl rfl))
  · rw [if_neg (by decide), if_pos rfl] at h
    refine z_aload1 dX1_does_0 (z_getP fl_X1_232 dX1_does_1 rfl rfl (hX.f4 _ hw) (z_iload3 dX1_does_4 (z_aald dX1_does_5 rfl (by decide) rfl ⟨hx, ha2, Nat.le_of_ble_eq_true rfl⟩ (hv a ha) (z_astore4 dX1_does_6 (z_iload2 dX1_does_8 (z_tabIn 104 dX1_does_9 (by decide) (by decide) rfl (by decide) (z_aload4 dX1_does_104 (z_aload0 dX1_does_106 (z_aload0 dX1_does_107 (z_getP fl_X1_35 dX1_does_108 rfl rfl (hX.f1 4 (by decide)) (z_iload3 dX1_does_111 (z_aald dX1_does_112 rfl (by decide) rfl ⟨hx, ha2, Nat.le_of_ble_eq_true rfl⟩ (hX.as ha) (z_invV1 (md_X1_behindCheck _) cv_X1_241 rfl dX1_does_113 rfl (Nat.le_of_ble_eq_true rfl) (Rm.ofB rfl) (X_behind hX hR ha hp hp2 hnp hnp2 (z_putI fl_X1_236 dX1_does_116 (kdW hw) rfl ⟨rfl, rfl⟩ (z_goto 137 dX1_does_119 (by decide) (z_return dX1_does_137 rfl (Nat.le_of_ble_eq_true rfl) (Nat.le_of_ble_eq_true rfl) ?_)))))))))))))))))
    exact h _ (hR.set hw 0 a _ (sX_col (by decide))) rfl (FX.rf.wI (Or.inl rfl))
  · rw [if_neg (by decide), if_neg (by decide), if_pos rfl] at h
    refine z_aload1 dX1_does_0 (z_getP fl_X1_232 dX1_does_1 rfl rfl (hX.f4 _ hw) (z_iload3 dX1_does_4 (z_aald dX1_does_5 rfl (by decide) rfl ⟨hx, ha2, Nat.le_of_ble_eq_true rfl⟩ (hv a ha) (z_astore4 dX1_does_6 (z_iload2 dX1_does_8 (z_tabIn 122 dX1_does_9 (by decide) (by decide) rfl (by decide) (z_aload4 dX1_does_122 (z_iconst (v := 5) dX1_does_124 (by decide) (z_putI fl_X1_236 dX1_does_125 (kdW hw) rfl ⟨rfl, rfl⟩ (z_goto 137 dX1_does_128 (by decide) (z_return dX1_does_137 rfl (Nat.le_of_ble_eq_true rfl) (Nat.le_of_ble_eq_true rfl) ?_)))))))))))
    exact h _ (hR.set hw 0 a _ (sX_col (by decide))) rfl (FX.rf.wI (Or.inl rfl))
theorem X_does3 {a p : Nat} {x : Int32} (hX : XP np na nl nb ng μ) (hv : XMv w na μ) (hR : RepX w σ μ) (hw : w < 2) (hm : m = decide (w = 0)) (hx : x = nI a) (ha : a < na) (hn : na ≤ 120) (hB : SB σ na) (hT : TB σ) (hp : σ 12 a = nI p) (hp2 : p < np) (hnp : np ≤ 80) {b : Nat} (hb : σ 7 4 = nI b) (hb2 : b < 150) (hb0 : w = 0 → b = nb) (h : ∀ μ', RepX w (prinF m σ a) μ' → XP np na nl (if w = 0 then nb + 1 else nb) ng μ' → XMv w na μ' → FX (SY w) (TY w) μ μ' → Q rV μ') : Ct RX1 cX1_does (6, none, [], false, rmm 4 1 4) [vr 1 0, vr 4 w, vi 3, vi x] μ Q := by
  refine Ct.of (ls := [some (vr 1 0), some (vr 4 w), some (vi 3), some (vi x), none, none]) rfl fun Γ C ad => ?_
  have ha2 : a < 120 := by omega
  refine z_aload1 dX1_does_0 (z_getP fl_X1_232 dX1_does_1 rfl rfl (hX.f4 _ hw) (z_iload3 dX1_does_4 (z_aald dX1_does_5 rfl (by decide) rfl ⟨hx, ha2, Nat.le_of_ble_eq_true rfl⟩ (hv a ha) (z_astore4 dX1_does_6 (z_iload2 dX1_does_8 (z_tabOut 131 dX1_does_9 (by decide) (by decide) (z_aload0 dX1_does_131 (z_aload1 dX1_does_132 (z_iload3 dX1_does_133 (z_invV2 (md_X1_print _) cv_X1_401 rfl dX1_does_134 rfl (Nat.le_of_ble_eq_true rfl) (Rm.ofB rfl) (X_print hX hv hR hw hm hx ha hn hB hT hp hp2 hnp hb hb2 hb0 (fun μ1 h1 h2 h3 h4 => ?_))))))))))))
  refine z_return dX1_does_137 rfl (Nat.le_of_ble_eq_true rfl) (Nat.le_of_ble_eq_true rfl) ?_
  exact h μ1 h1 h2 h3 h4
theorem desk_st {s d : Int32} (hd : d = 0 ∨ d = 1 ∨ d = 2 ∨ d = 3) : deskF s = d ↔ s = stAt d := by
  unfold deskF
  by_cases h0 : s = 0
  · rw [if_pos h0, h0]; rcases hd with rfl | rfl | rfl | rfl <;> decide
  · rw [if_neg h0]
    by_cases h2 : s = 2
    · rw [if_pos h2, h2]; rcases hd with rfl | rfl | rfl | rfl <;> decide
    · rw [if_neg h2]
      by_cases h4 : s = 4
      · rw [if_pos h4, h4]; rcases hd with rfl | rfl | rfl | rfl <;> decide
      · rw [if_neg h4]
        by_cases h5 : s = 5
        · rw [if_pos h5, h5]; rcases hd with rfl | rfl | rfl | rfl <;> decide
        · rw [if_neg h5]
          rcases hd with rfl | rfl | rfl | rfl
          · exact ⟨fun q => absurd q (by decide), fun q => absurd q h0⟩
          · exact ⟨fun q => absurd q (by decide), fun q => absurd q h2⟩
          · exact ⟨fun q => absurd q (by decide), fun q => absurd q h4⟩
          · exact ⟨fun q => absurd q (by decide), fun q => absurd q h5⟩
def S20 : Nat → Nat → Nat → Prop := fun p _ _ => p = 20
theorem xl_ne20 {w c i : Nat} (hw : w < 2) (hs : sX c i) : (xl w c i).1 ≠ 20 := by
  intro e
  have := xinv_xl hw hs
  unfold xinv at this
  rw [e] at this
  have h : ∀ k : Nat, (([] : List Nat).getD k 0) = 0 := fun _ => rfl
  simp at this
  have h0 : c = 0 := this.1.symm
  subst h0
  unfold xl at e
  simp at e
  omega
theorem RepX.d20 (hR : RepX w σ μ) (hw : w < 2) (hD : Dif S20 μ μ') : RepX w σ μ' := fun c i hs => by
  unfold gX
  rw [hD.2 _ _ _ (xl_ne20 hw hs)]
  exact hR c i hs
theorem X_line {d r : Int32} (hX : XP np na nl nb ng μ) (hv : XMv w na μ) (hR : RepX w σ μ) (hw : w < 2) (hn : σ 34 2 = nI na) (hn2 : na ≤ 120) (hd : d = 0 ∨ d = 1 ∨ d = 2 ∨ d = 3) (hr : r = 0 ∨ r = 1 ∨ r = 2) (hu : ∀ a, a < na → σ 16 a = 0 ∨ σ 16 a = 1) (h : ∀ μ', Dif S20 μ μ' → rowIs (gI μ' 20 0) (lineF σ d r) → Q (rI (nI (lineF σ d r).length)) μ') : Ct RX1 cX1_line (7, some .int, [], false, rmm 3 0 0) [vr 1 0, vr 4 w, vi d, vi r] μ Q := by
  refine Ct.of (ls := [some (vr 1 0), some (vr 4 w), some (vi d), some (vi r), none, none, none]) rfl fun Γ C ad => ?_
  have en : tn (σ 34 2) = na := by rw [hn, tn_nI (by omega)]
  refine z_iconst (v := 0) dX1_line_0 (by decide) (z_istore4 dX1_line_1 (z_iconst (v := 0) dX1_line_3 (by decide) (z_istore5 dX1_line_4 ?_)))
  have go : ∀ k, k ≤ na → ∀ (μ' : Mem) (o : Option AV), Dif S20 μ μ' → rowIs (gI μ' 20 0) (lineS σ d r k).reverse → Z RX1 cX1_line (7, some .int, [], false, rmm 3 0 0) (Γ, C, μ, ad, Q) 0 0 μ' 6 [some (vr 1 0), some (vr 4 w), some (vi d), some (vi r), some (vi (nI (lineS σ d r k).length)), some (vi (nI k)), o] [] := by
    refine loopN (P := fun k => ∀ (μ' : Mem) (o : Option AV), Dif S20 μ μ' → rowIs (gI μ' 20 0) (lineS σ d r k).reverse → Z RX1 cX1_line (7, some .int, [], false, rmm 3 0 0) (Γ, C, μ, ad, Q) 0 0 μ' 6 [some (vr 1 0), some (vr 4 w), some (vi d), some (vi r), some (vi (nI (lineS σ d r k).length)), some (vi (nI k)), o] []) na ?_ ?_
    · intro μ' o hD hrw
      have hR' := hR.d20 hw hD
      refine z_iload5 dX1_line_6 (z_aload0 dX1_line_8 (z_getIv fl_X1_122 dX1_line_9 rfl rfl (hR'.t 2 (by decide)) (z_icmp_ge 104 dX1_line_12 (by decide) (fun _ => z_iload4 dX1_line_104 (z_ireturn dX1_line_106 rfl (Nat.le_of_ble_eq_true rfl) (Nat.le_of_ble_eq_true rfl) ?_)) (fun c => absurd (lpt hn) c))))
      rw [lineF, en, List.length_reverse] at h
      exact h μ' hD hrw
    · intro k hk ih μ' o hD hrw
      have hR' := hR.d20 hw hD
      have hX' := hX.of hD.1
      have hv' := hv.of hD.1
      have hk2 : k < 120 := by omega
      rw [lineS] at ih
      refine z_iload5 dX1_line_6 (z_aload0 dX1_line_8 (z_getIv fl_X1_122 dX1_line_9 rfl rfl (hR'.t 2 (by decide)) (z_icmp_ge 104 dX1_line_12 (by decide) (fun c => absurd c (lpf hn hk (by omega))) (fun _ => z_aload1 dX1_line_15 (z_getP fl_X1_232 dX1_line_16 rfl rfl (hX'.f4 _ hw) (z_iload5 dX1_line_19 (z_aald dX1_line_21 rfl (by decide) rfl ⟨rfl, hk2, Nat.le_of_ble_eq_true rfl⟩ (hv' k hk) (z_getIv fl_X1_236 dX1_line_22 (kdW hw) rfl (hR'.q 0 _ (by decide)) (z_invS1 (md_X1_deskOf _) cs_X1_363 dX1_line_25 rfl (Nat.le_of_ble_eq_true rfl) (Rm.ofB rfl) (X_deskOf (z_iload2 dX1_line_28 (z_icmp_eq 35 dX1_line_29 (by decide) (fun c_29 => ?_) (fun c_29 => ?_)))))))))))))
      · have c29 := (desk_st hd).mp c_29
        rw [if_pos c29] at ih
        have hlen := lineS_len σ d r k
        have inner : ∀ (T S : List Nat) (μ2 : Mem), lineS σ d r k = S ++ T → insR (aheadB σ r) k (lineS σ d r k) = S ++ insR (aheadB σ r) k T → Dif S20 μ μ2 → (∀ j, j < T.length → gI μ2 20 0 j = nI (T.reverse.getD j 0)) → (∀ j, j < S.length → gI μ2 20 0 (T.length + 1 + j) = nI (S.reverse.getD j 0)) → Z RX1 cX1_line (7, some .int, [], false, rmm 3 0 0) (Γ, C, μ, ad, Q) (0) (0) (μ2) 39 [some (vr 1 0), some (vr 4 w), some (vi d), some (vi r), some (vi (nI (lineS σ d r k).length)), some (vi (nI k)), some (vi (nI T.length))] [] := by
          have fin : ∀ (T S : List Nat) (μ2 : Mem), lineS σ d r k = S ++ T → insR (aheadB σ r) k (lineS σ d r k) = S ++ k :: T → Dif S20 μ μ2 → (∀ j, j < T.length → gI μ2 20 0 j = nI (T.reverse.getD j 0)) → (∀ j, j < S.length → gI μ2 20 0 (T.length + 1 + j) = nI (S.reverse.getD j 0)) → Z RX1 cX1_line (7, some .int, [], false, rmm 3 0 0) (Γ, C, μ, ad, Q) (0) (0) (μ2) 86 [some (vr 1 0), some (vr 4 w), some (vi d), some (vi r), some (vi (nI (lineS σ d r k).length)), some (vi (nI k)), some (vi (nI T.length))] [] := by
            intro T S μ2 e1 e2 hD2 g1 g2
            have hTl : T.length < 120 := by
              have := congrArg List.length e1
              rw [List.length_append] at this
              omega
            refine z_aload0 dX1_line_86 (z_getP fl_X1_65 dX1_line_87 rfl rfl ((hX.of hD2.1).f1 10 (by decide)) (z_iload6 dX1_line_90 (z_iload5 dX1_line_92 (z_iast dX1_line_94 rfl ⟨rfl, hTl, Nat.le_of_ble_eq_true rfl⟩ (z_iinc4 dX1_line_95 (inc1 _) (z_iinc5 dX1_line_98 (inc1 k) (z_goto 6 dX1_line_101 (by decide) ?_)))))))
            have ih2 := ih (sI μ2 20 0 T.length (nI k)) (some (vi (nI T.length))) (hD2.tr (Dif.sI rfl)) (by rw [e2]; exact rowIs_fin g1 g2 (by rw [gI_sI, if_pos ⟨rfl, rfl, rfl⟩]) (fun j hj => by rw [gI_sI, if_neg (fun q => hj q.2.2)]))
            rw [insR_len] at ih2
            exact ih2
          intro T
          induction T with
          | nil =>
            intro S μ2 e1 e2 hD2 g1 g2
            refine z_iload6 dX1_line_39 (z_if_le 86 dX1_line_41 (by decide) (fun _ => ?_) (fun c => absurd ((by decide : nI ([] : List Nat).length ≤ 0)) c))
            exact fin [] S μ2 e1 e2 hD2 g1 g2
          | cons x T ihT =>
            intro S μ2 e1 e2 hD2 g1 g2
            have hxm : x ∈ lineS σ d r k := by rw [e1]; exact List.mem_append_right _ List.mem_cons_self
            have hx := (lineS_lt σ d r k x hxm).1
            have hl : S.length + (T.length + 1) ≤ k := by
              have := congrArg List.length e1
              rw [List.length_append, List.length_cons] at this
              omega
            have hR2 := hR.d20 hw hD2
            have hX2 := hX.of hD2.1
            have hv2 := hv.of hD2.1
            have ex : gI μ2 20 0 T.length = nI x := (g1 T.length (Nat.lt_succ_self _)).trans (by rw [getD_rev_last])
            have e2' : insR (aheadB σ r) k (lineS σ d r k) = S ++ (if aheadB σ r k x then x :: insR (aheadB σ r) k T else k :: x :: T) := e2
            refine z_iload6 dX1_line_39 (z_if_le 86 dX1_line_41 (by decide) (fun c => absurd c (nI_nle (n := T.length + 1) (by omega) (by omega))) (fun _ => z_aload0 dX1_line_44 (z_aload1 dX1_line_45 (z_iload5 dX1_line_46 (z_aload0 dX1_line_48 (z_getP fl_X1_65 dX1_line_49 rfl rfl (hX2.f1 10 (by decide)) (z_iload6 dX1_line_52 (z_iconst (v := 1) dX1_line_54 (by decide) (z_isub dX1_line_55 (z_ialdv dX1_line_56 rfl ⟨nI_pred T.length, (show T.length < 120 by omega), Nat.le_of_ble_eq_true rfl⟩ (ex) (z_iload3 dX1_line_57 (z_invV4 (md_X1_isAhead _) cv_X1_366 rfl dX1_line_58 rfl (Nat.le_of_ble_eq_true rfl) (Rm.ofB rfl) (X_isAhead hX2 hv2 hR2 hw hk (show x < na by omega) hn2 rfl rfl hr hu (z_if_eq 86 dX1_line_61 (by decide) (fun c_61 => ?_) (fun c_61 => ?_)))))))))))))))
            · rw [bI_0.mp c_61] at e2'
              exact fin (x :: T) S μ2 e1 e2' hD2 g1 g2
            · rw [bI_n0 c_61, if_pos rfl] at e2'
              refine z_aload0 dX1_line_64 (z_getP fl_X1_65 dX1_line_65 rfl rfl (hX2.f1 10 (by decide)) (z_iload6 dX1_line_68 (z_aload0 dX1_line_70 (z_getP fl_X1_65 dX1_line_71 rfl rfl (hX2.f1 10 (by decide)) (z_iload6 dX1_line_74 (z_iconst (v := 1) dX1_line_76 (by decide) (z_isub dX1_line_77 (z_ialdv dX1_line_78 rfl ⟨nI_pred T.length, (show T.length < 120 by omega), Nat.le_of_ble_eq_true rfl⟩ (ex) (z_iast dX1_line_79 rfl ⟨rfl, (show T.length + 1 < 120 by omega), Nat.le_of_ble_eq_true rfl⟩ (z_iinc6 dX1_line_80 (dec1 T.length) (z_goto 39 dX1_line_83 (by decide) ?_)))))))))))
              refine ihT (S ++ [x]) _ (by rw [e1, List.append_assoc]; rfl) (by rw [e2', List.append_assoc]; rfl) (hD2.tr (Dif.sI rfl)) (fun j hj => ?_) (fun j hj => ?_)
              · rw [gI_sI, if_neg (fun q => by have := q.2.2; rw [List.length_cons] at this; omega), g1 j (by rw [List.length_cons]; omega), getD_rev_lt hj]
              · rw [List.reverse_append, List.reverse_singleton]
                cases j with
                | zero => rw [gI_sI, if_pos ⟨rfl, rfl, rfl⟩]; rfl
                | succ j =>
                  rw [gI_sI, if_neg (fun q => by have := q.2.2; rw [List.length_cons] at this; omega)]
                  have := g2 j (by rw [List.length_append, List.length_singleton] at hj; omega)
                  rw [List.length_cons, show T.length + 1 + 1 + j = T.length + 1 + (j + 1) by omega] at this
                  rw [this]
                  rfl
        refine z_iload4 dX1_line_35 (z_istore6 dX1_line_37 ?_)
        exact inner _ [] μ' rfl rfl hD (fun j hj => hrw j (by rw [List.length_reverse]; exact hj)) (fun j hj => absurd hj (Nat.not_lt_zero _))
      · rw [if_neg (fun q => c_29 ((desk_st hd).mpr q))] at ih
        refine z_goto 98 dX1_line_32 (by decide) (z_iinc5 dX1_line_98 (inc1 k) (z_goto 6 dX1_line_101 (by decide) ?_))
        exact ih μ' o hD hrw
  exact go 0 (Nat.zero_le _) _ none Dif.rf (fun j hj => absurd hj (Nat.not_lt_zero _))
end X6
