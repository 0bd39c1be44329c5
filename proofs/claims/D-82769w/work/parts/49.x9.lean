/-! the Office: a day -/
theorem does_7 (m : Bool) (σ : Sg) {d : Int32} (hd : d = 0 ∨ d = 1 ∨ d = 2 ∨ d = 3) (a i : Nat) (hi : i = 0 ∨ i = 2 ∨ i = 3) : doesF m σ d a 7 i = σ 7 i := by
  unfold doesF
  rcases hd with rfl | rfl | rfl | rfl
  · rw [if_pos rfl]
    simp only [up2_eq]
    rw [if_neg (by omega), if_neg (by omega), if_neg (by omega)]
  · rw [if_neg (by decide), if_pos rfl]
    rw [up2_eq, if_neg (by omega)]
  · rw [if_neg (by decide), if_neg (by decide), if_pos rfl]
    rw [up2_eq, if_neg (by omega)]
  · rw [if_neg (by decide), if_neg (by decide), if_neg (by decide)]
    unfold prinF
    split
    · rw [gets_7 m _ a i (by omega)]
      simp only [up2_eq]
      rw [if_neg (by omega), if_neg (by omega), if_neg (by omega), if_neg (by omega), book_ne (by omega)]
    · simp only [up2_eq]
      rw [if_neg (by omega), if_neg (by omega), if_neg (by omega), if_neg (by omega), if_neg (by omega), book_ne (by omega)]
theorem wk_7 (m : Bool) {d : Int32} (hd : d = 0 ∨ d = 1 ∨ d = 2 ∨ d = 3) (i : Nat) (hi : i = 0 ∨ i = 2 ∨ i = 3) : ∀ (t : List Nat) (σ : Sg) (u : Int32), (wkS m d σ u t).1 7 i = σ 7 i
  | [], _, _ => rfl
  | a :: t, σ, u => by
    rw [wkS]
    split
    · rfl
    · rw [wk_7 m hd i hi t, does_7 m σ hd a i hi]
theorem wk_74 (m : Bool) {d : Int32} (hd : d = 0 ∨ d = 1 ∨ d = 2) : ∀ (t : List Nat) (σ : Sg) (u : Int32), (wkS m d σ u t).1 7 4 = σ 7 4
  | [], _, _ => rfl
  | a :: t, σ, u => by
    rw [wkS]
    split
    · rfl
    · rw [wk_74 m hd t, does_74, if_pos hd]
theorem dy_wk (m : Bool) {d : Int32} (hd : d = 0 ∨ d = 1 ∨ d = 2 ∨ d = 3) : ∀ (t : List Nat) (σ : Sg) (u : Int32), DY σ → DY (wkS m d σ u t).1
  | [], _, _, h => h
  | a :: t, σ, u, h => by
    rw [wkS]
    split
    · exact h
    · rename_i q
      refine dy_wk m hd t _ _ (dy_does m h hd a fun q3 => ?_)
      cases hz : canP σ with
      | true => rfl
      | false => exact absurd (Or.inr ⟨q3, hz⟩) q
theorem dy_works (m : Bool) {σ : Sg} (h : DY σ) {d : Nat} (hd : d < 4) (r : Int32) : DY (worksF m σ d r) := by
  unfold worksF
  exact (dy_wk m (nI_d4 hd) _ σ _ h).up ⟨Or.inr (by decide), by omega⟩
theorem dy_worksL (m : Bool) {σ : Sg} (h : DY σ) (r : Int32) : ∀ k, k ≤ 4 → DY (worksL m σ r k)
  | 0, _ => h
  | k + 1, hk => dy_works m (dy_worksL m h r k (by omega)) (by omega) r
theorem dy_getL (m : Bool) {σ : Sg} (h : DY σ) : ∀ k, DY (getL m σ k)
  | 0 => h
  | k + 1 => by
    rw [getL]
    split
    · exact dy_gets m (dy_getL m h k) k
    · exact dy_getL m h k
theorem tb_1 {σ : Sg} (h : TB σ) (h2 : σ 7 0 < 2000) : 0 ≤ σ 7 0 + 1 ∧ σ 7 0 + 1 ≤ 2000 := by
  have a1 := ti_le.mp h.1
  have a2 := ti_lt.mp h2
  have z0 : (0 : Int32).toInt = 0 := rfl
  have z1 : (1 : Int32).toInt = 1 := rfl
  have z2 : (2000 : Int32).toInt = 2000 := rfl
  rw [ti_le, ti_le, ti_add (by omega) (by omega)]
  omega
theorem dy_70 {σ : Sg} (h : DY σ) (h2 : σ 7 0 < 2000) : DY (up2 σ 7 0 (σ 7 0 + 1)) := by
  obtain ⟨h1, g2, h3, h4, b, h5, h6⟩ := h
  exact ⟨tb_1 h1 h2, g2, h3, h4, b, h5, h6⟩
theorem dy_dawn (m : Bool) {σ : Sg} (h : DY σ) (h2 : σ 7 0 < 2000) : DY (dawnF m σ) := dy_getL m (dy_70 h h2) _
theorem dy_day (m : Bool) {σ : Sg} (h : DY σ) (h2 : σ 7 0 < 2000) (r : Int32) : DY (dayF m σ r) := by
  unfold dayF
  exact dy_worksL m (((dy_dawn m h h2).up ⟨Or.inr (by decide), by omega⟩).up ⟨Or.inr (by decide), by omega⟩) r 4 (Nat.le_refl _)
theorem works_7 (m : Bool) (σ : Sg) {d : Nat} (hd : d < 4) (r : Int32) (i : Nat) (hi : i = 0 ∨ i = 2) : worksF m σ d r 7 i = σ 7 i := by
  unfold worksF
  rw [up2_eq, if_neg (by omega)]
  exact wk_7 m (nI_d4 hd) i (by omega) _ _ _
theorem worksL_7 (m : Bool) (σ : Sg) (r : Int32) (i : Nat) (hi : i = 0 ∨ i = 2) : ∀ k, k ≤ 4 → worksL m σ r k 7 i = σ 7 i
  | 0, _ => rfl
  | k + 1, hk => by rw [worksL, works_7 m _ (by omega) r i hi]; exact worksL_7 m σ r i hi k (by omega)
theorem day_70 (m : Bool) (σ : Sg) (r : Int32) : dayF m σ r 7 0 = σ 7 0 + 1 := by
  unfold dayF
  rw [worksL_7 m _ r 0 (Or.inl rfl) 4 (Nat.le_refl _)]
  show dawnF m σ 7 0 = _
  unfold dawnF
  rw [getL_7 m _ 0 (by decide)]
  rfl
theorem day_72 (m : Bool) (σ : Sg) (r : Int32) : dayF m σ r 7 2 = callF (dawnF m σ) := by
  unfold dayF
  rw [worksL_7 m _ r 2 (Or.inr rfl) 4 (Nat.le_refl _)]
  rfl
section X9
variable {np na nl nb ng w : Nat} {μ μ' : Mem} {σ : Sg} {Q : Res → Mem → Prop} {m : Bool}
theorem WX.of (h : WX w np na nl nb ng σ μ) (e : μ'.2 = μ.2) {σ' : Sg} (e2 : σ' 7 4 = σ 7 4) : WX w np na nl nb ng σ' μ' := by
  obtain ⟨x, h1, h2, h3⟩ := h
  exact ⟨x, h1.of e, fun q => by rw [e2]; exact h2 q, h3⟩
theorem LB.th {σ σ' : Sg} (h : LB σ) (ht : SameTh σ σ') : LB σ' := fun k hk => by
  rw [ht 34 3 (by omega)] at hk
  rw [ht 30 k (by omega), ht 32 k (by omega)]
  exact h k hk
theorem X_day {r : Int32} (hX : WX w np na nl nb ng σ μ) (hv : XMv w na μ) (hR : RepX w σ μ) (hw : w < 2) (hm : m = decide (w = 0)) (hP : PD σ na np nl) (hD : DY σ) (h2 : σ 7 0 < 2000) (hB : SB σ na) (hL : LB σ) (hr : r = 0 ∨ r = 1 ∨ r = 2) (h : ∀ μ', RepX w (dayF m σ r) μ' → WX w np na nl nb ng (dayF m σ r) μ' → XMv w na μ' → FX (SZ w) (TY w) μ μ' → Q rV μ') : Ct RX1 cX1_day (5, none, [], false, rmm 6 150 600) [vr 1 0, vr 4 w, vi r] μ Q := by
  refine Ct.of (ls := [some (vr 1 0), some (vr 4 w), some (vi r), none, none]) rfl fun Γ C ad => ?_
  have n120 := hP.1.2
  have en : tn (σ 34 2) = na := by rw [hP.1.1, tn_nI (by omega)]
  let σ1 : Sg := up2 σ 7 0 (σ 7 0 + 1)
  have hR1 : RepX w σ1 (sI μ 4 w 1 (σ 7 0 + 1)) := hR.set hw 7 0 _ (show (0 : Nat) < 6 by decide)
  have hF1 : FX (SZ w) (TY w) μ (sI μ 4 w 1 (σ 7 0 + 1)) := FX.rf.wI (Or.inl (Or.inr (Or.inl ⟨rfl, rfl⟩)))
  have t1 : SameTh σ σ1 := SameTh.rf.up (by omega)
  have hD1 : DY σ1 := dy_70 hD h2
  have ed : dawnF m σ = getL m σ1 na := by rw [dawnF, en]
  have l1 : ∀ k, k ≤ na → ∀ μ', RepX w (getL m σ1 k) μ' → μ'.2 = μ.2 → FX (SZ w) (TY w) μ μ' → Z RX1 cX1_day (5, none, [], false, rmm 6 150 600) (Γ, C, μ, ad, Q) (0) (0) (μ') 12 [some (vr 1 0), some (vr 4 w), some (vi r), some (vi (nI k)), none] [] := by
    refine loopN (P := fun k => ∀ μ', RepX w (getL m σ1 k) μ' → μ'.2 = μ.2 → FX (SZ w) (TY w) μ μ' → Z RX1 cX1_day (5, none, [], false, rmm 6 150 600) (Γ, C, μ, ad, Q) (0) (0) (μ') 12 [some (vr 1 0), some (vr 4 w), some (vi r), some (vi (nI k)), none] []) na ?_ ?_
    · intro μ' hR' em hF'
      rw [← ed] at hR'
      have tD : SameTh σ (dawnF m σ) := by rw [ed]; exact t1.tr (th_getL m σ1 na)
      have hP' := hP.th tD
      have hDD : DY (dawnF m σ) := dy_dawn m hD h2
      have d74 : dawnF m σ 7 4 = σ 7 4 := by rw [ed, getL_7 m σ1 4 (by decide)]; rfl
      have hv' := hv.of em
      obtain ⟨nb0, hX0, -⟩ := hX.of em (σ' := dawnF m σ) d74
      let σ2 : Sg := up2 (up2 (dawnF m σ) 7 2 (callF (dawnF m σ))) 7 3 0
      have t2 : SameTh (dawnF m σ) σ2 := (SameTh.rf.up (by omega)).up (by omega)
      have hD2 : DY σ2 := (hDD.up ⟨Or.inr (by decide), by omega⟩).up ⟨Or.inr (by decide), by omega⟩
      have hR2 : RepX w σ2 (sI (sI μ' 4 w 3 (callF (dawnF m σ))) 4 w 4 0) := (hR'.set hw 7 2 _ (show (2 : Nat) < 6 by decide)).set hw 7 3 _ (show (3 : Nat) < 6 by decide)
      have sz4 : ∀ k, SZ w 4 w k := fun k => Or.inl (Or.inr (Or.inl ⟨rfl, rfl⟩))
      have step : ∀ k, k < 4 → ∀ (μ2 : Mem) (o : Option AV), RepX w (worksL m σ2 r k) μ2 → WX w np na nl nb ng (worksL m σ2 r k) μ2 → XMv w na μ2 → FX (SZ w) (TY w) μ μ2 →
          (∀ u, u = unitD (worksL m σ2 r k) k → Z RX1 cX1_day (5, none, [], false, rmm 6 150 600) (Γ, C, μ, ad, Q) 0 0 μ2 111 [some (vr 1 0), some (vr 4 w), some (vi r), some (vi (nI k)), some (vi u)] []) →
          Z RX1 cX1_day (5, none, [], false, rmm 6 150 600) (Γ, C, μ, ad, Q) 0 0 μ2 78 [some (vr 1 0), some (vr 4 w), some (vi r), some (vi (nI k)), o] [] := by
        intro k hk μ2 o hR2 hX2 hv2 hF2 kk
        have tk := (t2.tr (th_worksL m σ2 r k))
        have hPk := hP'.th tk
        obtain ⟨nb2, hXX, -⟩ := hX2
        refine z_iload3 dX1_day_78 (z_iconst (v := 4) dX1_day_79 (by decide) (z_icmp_ge 135 dX1_day_80 (by decide) (fun c => absurd c (lpf (n := 4) rfl hk (by decide))) (fun _ => z_aload0 dX1_day_83 (z_iload3 dX1_day_84 (z_aload1 dX1_day_85 (z_getIv fl_X1_140 dX1_day_86 rfl rfl (hR2.wd 0 (by decide)) (z_invV2 (md_X1_unitsOf _) cv_X1_347 rfl dX1_day_89 rfl (Nat.le_of_ble_eq_true rfl) (Rm.ofB rfl) (X_unitsOf hXX hR2 rfl hk hPk.2.2.1.1 hPk.2.2.1.2 (hL.th (tD.tr tk)) (z_istore4 dX1_day_92 (z_iload3 dX1_day_94 (z_if_ne 111 dX1_day_95 (by decide) (fun c_95 => ?_) (fun c_95 => ?_))))))))))))
        · refine kk _ ?_
          rw [unitD, if_neg]
          intro q
          rw [q] at c_95
          exact c_95 rfl
        · refine z_iconst (v := 0) dX1_day_98 (by decide) (z_iload4 dX1_day_99 (z_aload1 dX1_day_101 (z_getIv fl_X1_384 dX1_day_102 rfl rfl (hR2.wd 2 (by decide)) (z_isub dX1_day_105 (z_invS2 (md_J11_max _) cs_X1_344 dX1_day_106 rfl (Nat.le_of_ble_eq_true rfl) (Rm.ofB rfl) (J_max (z_istore4 dX1_day_109 ?_)))))))
          have hd0 : k = 0 := (nI_eq (by omega) (by decide)).mp c_95
          refine kk _ ?_
          rw [unitD, if_pos hd0]
      have l3 : ∀ k, k ≤ 3 → ∀ (μ2 : Mem) (o : Option AV), RepX w (worksL m σ2 r k) μ2 → WX w np na nl nb ng (worksL m σ2 r k) μ2 → XMv w na μ2 → FX (SZ w) (TY w) μ μ2 → Z RX1 cX1_day (5, none, [], false, rmm 6 150 600) (Γ, C, μ, ad, Q) 0 0 μ2 78 [some (vr 1 0), some (vr 4 w), some (vi r), some (vi (nI k)), o] [] := by
        refine loopN (P := fun k => ∀ (μ2 : Mem) (o : Option AV), RepX w (worksL m σ2 r k) μ2 → WX w np na nl nb ng (worksL m σ2 r k) μ2 → XMv w na μ2 → FX (SZ w) (TY w) μ μ2 → Z RX1 cX1_day (5, none, [], false, rmm 6 150 600) (Γ, C, μ, ad, Q) 0 0 μ2 78 [some (vr 1 0), some (vr 4 w), some (vi r), some (vi (nI k)), o] []) 3 ?_ ?_
        · intro μ2 o hR2 hX2 hv2 hF2
          refine step 3 (by decide) μ2 o hR2 hX2 hv2 hF2 fun u hu => ?_
          have tk := (t2.tr (th_worksL m σ2 r 3))
          obtain ⟨nb2, hXX, hrest⟩ := hX2
          have e73 : (wkS m 3 (worksL m σ2 r 3) u (lineF (worksL m σ2 r 3) 3 r)).1 7 3 = worksL m σ2 r 3 7 3 := wk_7 m (by decide) 3 (by decide) _ _ _
          refine z_aload1 dX1_day_111 (z_dupa dX1_day_112 (z_getIv fl_X1_387 dX1_day_113 rfl rfl (hR2.wd 3 (by decide)) (z_aload0 dX1_day_116 (z_aload1 dX1_day_117 (z_iload3 dX1_day_118 (z_iload2 dX1_day_119 (z_iload4 dX1_day_120 (z_invV4 (md_X1_work _) cv_X1_390 rfl dX1_day_122 rfl (Nat.le_of_ble_eq_true rfl) (Rm.ofB rfl) (X_work3 (m := m) ⟨nb2, hXX, hrest⟩ hv2 hR2 hw hm (hP'.th tk) (dy_worksL m hD2 r 3 (by decide)) (hB.th (tD.tr tk)) hr (fun μ3 hR3 hX3 hv3 hF3 => ?_))))))))))
          have R4 : RepX w (worksL m σ2 r 4) (sI μ3 4 w 4 (worksL m σ2 r 3 7 3 + (wkS m 3 (worksL m σ2 r 3) u (lineF (worksL m σ2 r 3) 3 r)).2)) := by
            have := hR3.set hw 7 3 (worksL m σ2 r 3 7 3 + (wkS m 3 (worksL m σ2 r 3) u (lineF (worksL m σ2 r 3) 3 r)).2) (show (3 : Nat) < 6 by decide)
            rw [worksL, worksF, ← hu, show nI 3 = 3 from rfl, e73]
            exact this
          refine z_iadd dX1_day_125 (z_putI fl_X1_387 dX1_day_126 rfl rfl ⟨rfl, rfl⟩ (z_iinc3 dX1_day_129 (inc1 3) (z_goto 78 dX1_day_132 (by decide) ?_)))
          refine z_iload3 dX1_day_78 (z_iconst (v := 4) dX1_day_79 (by decide) (z_icmp_ge 135 dX1_day_80 (by decide) (fun _ => z_return dX1_day_135 rfl (Nat.le_of_ble_eq_true rfl) (Nat.le_of_ble_eq_true rfl) ?_) (fun c => absurd (lpt (n := 4) rfl) c)))
          refine h _ R4 (hX3.of rfl ?_) (hv3.of rfl) ((hF2.tr hF3).wI (sz4 4))
          show worksL m σ2 r 4 7 4 = _
          rw [worksL, worksF, ← hu, show nI 3 = 3 from rfl]
          rfl
        · intro k hk ih μ2 o hR2 hX2 hv2 hF2
          refine step k (by omega) μ2 o hR2 hX2 hv2 hF2 fun u hu => ?_
          have tk := (t2.tr (th_worksL m σ2 r k))
          have hkd : nI k = 0 ∨ nI k = 1 ∨ nI k = 2 := by
            have : k = 0 ∨ k = 1 ∨ k = 2 := by omega
            rcases this with rfl | rfl | rfl
            · exact Or.inl rfl
            · exact Or.inr (Or.inl rfl)
            · exact Or.inr (Or.inr rfl)
          have hX2' := hX2
          obtain ⟨nb2, hXX, hrest⟩ := hX2
          have e73 : (wkS m (nI k) (worksL m σ2 r k) u (lineF (worksL m σ2 r k) (nI k) r)).1 7 3 = worksL m σ2 r k 7 3 := wk_7 m (nI_d4 (by omega)) 3 (by decide) _ _ _
          have e74 : (wkS m (nI k) (worksL m σ2 r k) u (lineF (worksL m σ2 r k) (nI k) r)).1 7 4 = worksL m σ2 r k 7 4 := wk_74 m hkd _ _ _
          refine z_aload1 dX1_day_111 (z_dupa dX1_day_112 (z_getIv fl_X1_387 dX1_day_113 rfl rfl (hR2.wd 3 (by decide)) (z_aload0 dX1_day_116 (z_aload1 dX1_day_117 (z_iload3 dX1_day_118 (z_iload2 dX1_day_119 (z_iload4 dX1_day_120 (z_invV4 (md_X1_work _) cv_X1_390 rfl dX1_day_122 rfl (Nat.le_of_ble_eq_true rfl) (Rm.ofB rfl) (X_work012 (m := m) hXX hv2 hR2 hw (hP'.th tk) (dy_worksL m hD2 r k (by omega)) hr hkd (fun μ3 hR3 em3 hF3 => ?_))))))))))
          have R4 : RepX w (worksL m σ2 r (k + 1)) (sI μ3 4 w 4 (worksL m σ2 r k 7 3 + (wkS m (nI k) (worksL m σ2 r k) u (lineF (worksL m σ2 r k) (nI k) r)).2)) := by
            have := hR3.set hw 7 3 (worksL m σ2 r k 7 3 + (wkS m (nI k) (worksL m σ2 r k) u (lineF (worksL m σ2 r k) (nI k) r)).2) (show (3 : Nat) < 6 by decide)
            rw [worksL, worksF, ← hu, e73]
            exact this
          refine z_iadd dX1_day_125 (z_putI fl_X1_387 dX1_day_126 rfl rfl ⟨rfl, rfl⟩ (z_iinc3 dX1_day_129 (inc1 k) (z_goto 78 dX1_day_132 (by decide) ?_)))
          refine ih _ _ R4 (hX2'.of em3 ?_) (hv2.of em3) ((hF2.tr hF3).wI (sz4 4))
          rw [worksL, worksF, ← hu]
          exact e74
      refine z_iload3 dX1_day_12 (z_aload0 dX1_day_13 (z_getIv fl_X1_122 dX1_day_14 rfl rfl (hR'.t 2 (by decide)) (z_icmp_ge 62 dX1_day_17 (by decide) (fun _ => z_aload1 dX1_day_62 (z_aload0 dX1_day_63 (z_aload1 dX1_day_64 (z_invV1 (md_X1_callsOf _) cv_X1_380 rfl dX1_day_65 rfl (Nat.le_of_ble_eq_true rfl) (Rm.ofB rfl) (X_callsOf hX0 hv' hR' hw hP'.1.1 n120 (z_putI fl_X1_384 dX1_day_68 rfl rfl ⟨rfl, rfl⟩ (z_aload1 dX1_day_71 (z_iconst (v := 0) dX1_day_72 (by decide) (z_putI fl_X1_387 dX1_day_73 rfl rfl ⟨rfl, rfl⟩ (z_iconst (v := 0) dX1_day_76 (by decide) (z_istore3 dX1_day_77 ?_))))))))))) (fun c => absurd (lpt hP'.1.1) c))))
      exact l3 0 (by decide) _ _ hR2 (hX.of em d74) hv' ((hF'.wI (sz4 3)).wI (sz4 4))
    · intro k hk ih μ' hR' em hF'
      have hv' := hv.of em
      have hk2 : k < 120 := by omega
      have e7 : ∀ i, i ≠ 5 → getL m σ1 k 7 i = σ1 7 i := fun i hi => getL_7 m σ1 i hi k
      have tk := t1.tr (th_getL m σ1 k)
      obtain ⟨nb0, hX0, -⟩ := hX.of em (σ' := getL m σ1 k) ((e7 4 (by decide)).trans rfl)
      have e34 : getL m σ1 k 34 2 = nI na := (tk 34 2 (by omega)).trans hP.1.1
      rw [getL] at ih
      have no : ¬ (getL m σ1 k 0 k = 6 ∧ getL m σ1 k 4 k ≤ σ1 7 0) → Z RX1 cX1_day (5, none, [], false, rmm 6 150 600) (Γ, C, μ, ad, Q) (0) (0) (μ') 56 [some (vr 1 0), some (vr 4 w), some (vi r), some (vi (nI k)), none] [] := by
        intro q
        rw [if_neg q] at ih
        refine z_iinc3 dX1_day_56 (inc1 k) (z_goto 12 dX1_day_59 (by decide) ?_)
        exact ih μ' hR' em hF'
      refine z_iload3 dX1_day_12 (z_aload0 dX1_day_13 (z_getIv fl_X1_122 dX1_day_14 rfl rfl (hR'.t 2 (by decide)) (z_icmp_ge 62 dX1_day_17 (by decide) (fun c => absurd c (lpf e34 hk (by omega))) (fun _ => z_aload1 dX1_day_20 (z_getP fl_X1_232 dX1_day_21 rfl rfl (hX0.f4 _ hw) (z_iload3 dX1_day_24 (z_aald dX1_day_25 rfl (by decide) rfl ⟨rfl, hk2, Nat.le_of_ble_eq_true rfl⟩ (hv' k hk) (z_getIv fl_X1_236 dX1_day_26 (kdW hw) rfl (hR'.q 0 _ (by decide)) (z_bipush (v := 6) dX1_day_29 (by decide) (z_icmp_ne 56 dX1_day_31 (by decide) (fun c_31 => ?_) (fun c_31 => ?_)))))))))))
      · exact no fun q => c_31 q.1
      · refine z_aload1 dX1_day_34 (z_getP fl_X1_232 dX1_day_35 rfl rfl (hX0.f4 _ hw) (z_iload3 dX1_day_38 (z_aald dX1_day_39 rfl (by decide) rfl ⟨rfl, hk2, Nat.le_of_ble_eq_true rfl⟩ (hv' k hk) (z_getIv fl_X1_305 dX1_day_40 (kdW hw) rfl (hR'.q 4 _ (by decide)) (z_aload1 dX1_day_43 (z_getIv fl_X1_140 dX1_day_44 rfl rfl (hR'.wd 0 (by decide)) (z_icmp_gt 56 dX1_day_47 (by decide) (fun c_47 => ?_) (fun c_47 => ?_))))))))
        · rw [e7 0 (by decide)] at c_47
          exact no fun q => absurd q.2 (Int32.not_le.mpr c_47)
        · rw [e7 0 (by decide)] at c_47
          rw [if_pos ⟨c_31, Int32.not_lt.mp c_47⟩] at ih
          refine z_aload0 dX1_day_50 (z_aload1 dX1_day_51 (z_iload3 dX1_day_52 (z_invV2 (md_X1_gets _) cv_X1_376 rfl dX1_day_53 rfl (Nat.le_of_ble_eq_true rfl) (Rm.ofB rfl) (X_gets (m := m) hX0 hv' hR' hw hm rfl hk n120 (hB.th tk) (dy_getL m hD1 k).1 (fun μ2 hR2 em2 hF2 => ?_)))))
          refine z_iinc3 dX1_day_56 (inc1 k) (z_goto 12 dX1_day_59 (by decide) ?_)
          exact ih μ2 hR2 (em2.trans em) (hF'.tr hF2.z)
  obtain ⟨nb1, hX1, -⟩ := id hX
  refine z_aload1 dX1_day_0 (z_dupa dX1_day_1 (z_getIv fl_X1_140 dX1_day_2 rfl rfl (hR.wd 0 (by decide)) (z_iconst (v := 1) dX1_day_5 (by decide) (z_iadd dX1_day_6 (z_putI fl_X1_140 dX1_day_7 rfl rfl ⟨rfl, rfl⟩ (z_iconst (v := 0) dX1_day_10 (by decide) (z_istore3 dX1_day_11 ?_)))))))
  exact l1 0 (Nat.zero_le _) _ hR1 rfl hF1
end X9
