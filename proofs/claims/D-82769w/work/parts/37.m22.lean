/-! Model: judges, judge, ask -/
section M22
variable {μ μ' : Mem} {Q : Res → Mem → Prop} {σ : Sg} {Λ : Lws}
theorem nn_msb {x : Int32} (h : 0 ≤ x) : x.toBitVec.msb = false := by
  have h1 : (0 : Int) ≤ x.toInt := by simpa using Int32.le_iff_toInt_le.mp h
  rw [BitVec.msb_eq_toInt]
  exact decide_eq_false (Int.not_lt.mpr h1)
theorem xor_nn {x y : Int32} (hx : 0 ≤ x) (hy : 0 ≤ y) : 0 ≤ x ^^^ y := by
  have h : (x ^^^ y).toBitVec.msb = false := by
    rw [show (x ^^^ y).toBitVec = x.toBitVec ^^^ y.toBitVec from rfl, BitVec.msb_xor, nn_msb hx, nn_msb hy]
    rfl
  rw [BitVec.msb_eq_toInt] at h
  have h2 := of_decide_eq_false h
  refine Int32.le_iff_toInt_le.mpr ?_
  have : (0 : Int) ≤ (x ^^^ y).toInt := Int.not_lt.mp h2
  simpa using this
theorem J_floorDiv {x y : Int32} (hx : 0 ≤ x) (hy : 0 ≤ y) (hn : ¬ y = 0) (h : Q (rI (x / y)) μ) : Ct RJ11 cJ11_floorDiv (3, some .int, [], false, rmm 1 0 0) [vi x, vi y] μ Q := by
  refine Ct.of (ls := [some (vi x), some (vi y), none]) rfl fun Γ C ad => ?_
  refine z_iload0 dJ11_floorDiv_0 (z_iload1 dJ11_floorDiv_1 (z_idiv dJ11_floorDiv_2 hn (z_istore2 dJ11_floorDiv_3 (z_iload0 dJ11_floorDiv_4 (z_iload1 dJ11_floorDiv_5 (z_ixor dJ11_floorDiv_6 (z_if_ge 21 dJ11_floorDiv_7 (by decide) (fun _ => z_iload2 dJ11_floorDiv_21 (z_ireturn dJ11_floorDiv_22 rfl (Nat.le_of_ble_eq_true rfl) (Nat.le_of_ble_eq_true rfl) ?_)) (fun c => absurd (xor_nn hx hy) c))))))))
  exact h
def JF (μ : Mem) (r : Rul) : Prop := gI μ 50 0 23 = r.1 ∧ gI μ 50 0 24 = r.2.1 ∧ gI μ 50 0 25 = r.2.2.1 ∧ gI μ 50 0 26 = r.2.2.2.1 ∧ gI μ 50 0 27 = r.2.2.2.2.1 ∧ gI μ 50 0 28 = r.2.2.2.2.2
def SJ : Nat → Nat → Nat → Prop := fun p _ k => p = 72 ∨ p = 73 ∨ (p = 50 ∧ 23 ≤ k ∧ k ≤ 28)
theorem TM.sj (h : TM σ Λ μ) (hD : Dif SJ μ μ') : TM σ Λ μ' ∧ Fm μ μ' ∧ gI μ' 50 0 0 = gI μ 50 0 0 := by
  have n1 : ∀ c, c < 40 → mp c ≠ 72 ∧ mp c ≠ 73 := by decide +kernel
  have h7 : ∀ c, c < 40 → mp c = 50 → c = 7 ∨ c = 34 := by decide +kernel
  have h8 : ∀ j, j < 6 → tS.getD j 0 < 23 ∨ 28 < tS.getD j 0 := by decide +kernel
  have h9 : ∀ j, j < 18 → tT.getD j 0 < 23 ∨ 28 < tT.getD j 0 := by decide +kernel
  have hge : ∀ p i k, SJ p i k → 50 ≤ p ∧ (p < 63 ∨ 69 < p) := fun p i k q => by unfold SJ at q; omega
  refine ⟨h.go (h.2.1.dif hD ?_) hD hge ((hD.2 _ _ _ fun q => by unfold SJ at q; omega).trans h.2.2.1) rfl (fun _ => rfl), hD.fm hge, hD.2 _ _ _ fun q => by unfold SJ at q; omega⟩
  rintro p k ⟨-, c, j, hs, rfl, rfl⟩ q
  rcases q with q | q | ⟨q, q2⟩
  · exact (n1 c (sM_lt hs)).1 q
  · exact (n1 c (sM_lt hs)).2 q
  · rcases h7 c (sM_lt hs) q with rfl | rfl
    · have := h8 j (sM_7 hs)
      have e : ms 7 j = tS.getD j 0 := rfl
      rw [e] at q2; omega
    · have := h9 j (sM_34 hs)
      have e : ms 34 j = tT.getD j 0 := rfl
      rw [e] at q2; omega
set_option maxRecDepth 8000 in
set_option maxHeartbeats 1000000 in
theorem M_judges {x : Nat} {p kind wanted : Int32} {u : Bool} (hI : TM σ Λ μ) (hp : p = nI x) (hx : x < 80) (hk : 0 ≤ kind ∧ kind ≤ 3) {nb L : Nat} (hb : σ 7 4 = nI nb) (hb2 : nb ≤ 150) (hL : σ 34 0 = nI L) (hL2 : L ≤ 12) (hE : EvOK σ Λ) (hage : 0 ≤ σ 7 0 - σ 24 x)
    (h : ∀ μ', TM σ Λ μ' → Fm μ μ' → gI μ' 50 0 0 = gI μ 50 0 0 → JF μ' (rulF σ Λ x kind wanted u) → Q rV μ') : Ct RX5 cX5_judges (8, none, [], false, rmm 2 0 0) [vr 50 0, vi p, vi kind, vi wanted, vi (bI u)] μ Q := by
  refine Ct.of (ls := [some (vr 50 0), some (vi p), some (vi kind), some (vi wanted), some (vi (bI u)), none, none, none]) rfl fun Γ C ad => ?_
  have hR := hI.2.1
  have hM := hI.1
  subst hp
  have D2 : Dif SJ μ (sI (sI μ 72 0 0 ((σ 7 0 - σ 24 x) / 365)) 72 0 1 (wanted - σ 7 0)) := (Dif.sI (Or.inl rfl)).tr (Dif.sI (Or.inl rfl))
  have hR2 := (hI.sj D2).1.2.1
  refine z_aload0 dX5_judges_0 (z_getP (v := some (72, 0)) fl_X5_48 dX5_judges_1 rfl rfl (hM 21 rfl) (z_iconst (v := 0) dX5_judges_4 (by decide) (z_aload0 dX5_judges_5 (z_getIv fl_X5_314 dX5_judges_6 rfl rfl (hR.s7 0 (by decide)) (z_aload0 dX5_judges_9 (z_getP (v := some (80, 0)) fl_X5_55 dX5_judges_10 rfl rfl (hM 29 rfl) (z_iload1 dX5_judges_13 (z_ialdv dX5_judges_14 rfl ⟨rfl, hx, Nat.le_of_ble_eq_true rfl⟩ (hR.col 24 _ (by decide)) (z_isub dX5_judges_15 (z_sipush (v := 365) dX5_judges_16 (by decide) (z_invS2 (md_J11_floorDiv _) cs_X5_331 dX5_judges_19 rfl (Nat.le_of_ble_eq_true rfl) (Rm.ofB rfl) (J_floorDiv hage (by decide) (by decide) (z_iast dX5_judges_22 rfl ⟨rfl, (show 0 < 9 by decide), Nat.le_of_ble_eq_true rfl⟩ (z_aload0 dX5_judges_23 (z_getP (v := some (72, 0)) fl_X5_48 dX5_judges_24 rfl rfl (hM 21 rfl) (z_iconst (v := 1) dX5_judges_27 (by decide) (z_iload3 dX5_judges_28 (z_aload0 dX5_judges_29 (z_getIv fl_X5_314 dX5_judges_30 rfl rfl (hR.s7 0 (by decide)) (z_isub dX5_judges_33 (z_iast dX5_judges_34 rfl ⟨rfl, (show 1 < 9 by decide), Nat.le_of_ble_eq_true rfl⟩ (z_aload0 dX5_judges_35 (z_getP (v := some (72, 0)) fl_X5_48 dX5_judges_36 rfl rfl (hM 21 rfl) (z_iconst (v := 2) dX5_judges_39 (by decide) (z_aload0 dX5_judges_40 (z_iload1 dX5_judges_41 (z_aload0 dX5_judges_42 (z_getIv fl_X5_314 dX5_judges_43 rfl rfl (hR.s7 0 (by decide)) (z_invV2 (md_X5_validOf _) cv_X5_337 rfl dX5_judges_46 rfl (Nat.le_of_ble_eq_true rfl) (Rm.ofB rfl) (M_validOf hM hR2 hb hb2 (z_iast dX5_judges_49 rfl ⟨rfl, (show 2 < 9 by decide), Nat.le_of_ble_eq_true rfl⟩ ?_)))))))))))))))))))))))))))))))
  generalize hμ3 : sI (sI (sI μ 72 0 0 ((σ 7 0 - σ 24 x) / 365)) 72 0 1 (wanted - σ 7 0)) 72 0 2 (validF σ (nI x) (σ 7 0)) = μ3
  have D3 : Dif SJ μ μ3 := by rw [← hμ3]; exact D2.tr (Dif.sI (Or.inl rfl))
  obtain ⟨T3, -, -⟩ := hI.sj D3
  have hR3 := T3.2.1
  have hM3 := T3.1
  let φ := phiF σ x kind wanted u
  have P3 : gI μ3 72 0 0 = φ 0 ∧ gI μ3 72 0 1 = φ 1 ∧ gI μ3 72 0 2 = φ 2 := by
    rw [← hμ3]
    refine ⟨?_, ?_, ?_⟩ <;> simp [gI_sI, φ, phiF]
  -- the last fact, then the laws
  have stL : ∀ μ5, Dif SJ μ μ5 → (∀ j, j < 8 → gI μ5 72 0 j = φ j) → ∀ o5 : Option AV, Z RX5 cX5_judges (8, none, [], false, rmm 2 0 0) (Γ, C, μ, ad, Q) 0 0 μ5 105 [some (vr 50 0), some (vi (nI x)), some (vi kind), some (vi wanted), some (vi (bI u)), o5, none, none] [] := by
    intro μ5 D5 h8 o5
    have hM5 := (hI.sj D5).1.1
    have j121 : Z RX5 cX5_judges (8, none, [], false, rmm 2 0 0) (Γ, C, μ, ad, Q) 0 0 μ5 121 [some (vr 50 0), some (vi (nI x)), some (vi kind), some (vi wanted), some (vi (bI u)), o5, none, none] [vi (bI u), vi 8, vr 72 0] := by
      refine z_iast dX5_judges_121 rfl ⟨rfl, (show 8 < 9 by decide), Nat.le_of_ble_eq_true rfl⟩ (z_aload0 dX5_judges_122 (z_iconst (v := 0) dX5_judges_123 (by decide) (z_putI fl_X5_340 dX5_judges_124 rfl rfl ⟨rfl, rfl⟩ (z_aload0 dX5_judges_127 (z_iconst (v := 0) dX5_judges_128 (by decide) (z_putI fl_X5_343 dX5_judges_129 rfl rfl ⟨rfl, rfl⟩ (z_aload0 dX5_judges_132 (z_iconst (v := (-1)) dX5_judges_133 (by decide) (z_putI fl_X5_346 dX5_judges_134 rfl rfl ⟨rfl, rfl⟩ (z_aload0 dX5_judges_137 (z_iconst (v := 0) dX5_judges_138 (by decide) (z_putI fl_X5_349 dX5_judges_139 rfl rfl ⟨rfl, rfl⟩ (z_aload0 dX5_judges_142 (z_iconst (v := (-1)) dX5_judges_143 (by decide) (z_putI fl_X5_352 dX5_judges_144 rfl rfl ⟨rfl, rfl⟩ (z_aload0 dX5_judges_147 (z_iconst (v := 0) dX5_judges_148 (by decide) (z_putI fl_X5_355 dX5_judges_149 rfl rfl ⟨rfl, rfl⟩ ?_))))))))))))))))))
      generalize hμ6 : sI (sI (sI (sI (sI (sI (sI μ5 72 0 8 (bI u)) 50 0 23 0) 50 0 24 0) 50 0 25 (-1)) 50 0 26 0) 50 0 27 (-1)) 50 0 28 0 = μ6
      have D6 : Dif SJ μ μ6 := by
        rw [← hμ6]
        exact ((((((D5.tr (Dif.sI (Or.inl rfl))).tr (Dif.sI (Or.inr (Or.inr ⟨rfl, by decide, by decide⟩)))).tr (Dif.sI (Or.inr (Or.inr ⟨rfl, by decide, by decide⟩)))).tr (Dif.sI (Or.inr (Or.inr ⟨rfl, by decide, by decide⟩)))).tr (Dif.sI (Or.inr (Or.inr ⟨rfl, by decide, by decide⟩)))).tr (Dif.sI (Or.inr (Or.inr ⟨rfl, by decide, by decide⟩)))).tr (Dif.sI (Or.inr (Or.inr ⟨rfl, by decide, by decide⟩)))
      have J6 : JF μ6 (0, 0, -1, 0, -1, 0) := by rw [← hμ6]; unfold JF; simp [gI_sI]
      have φ6 : ∀ j, j < 9 → gI μ6 72 0 j = φ j := fun j hj => by
        rw [← hμ6]
        rcases Nat.lt_or_ge j 8 with q | q
        · have : j ≠ 8 := by omega
          simp [gI_sI, this]; exact h8 j q
        · have : j = 8 := by omega
          subst this
          simp [gI_sI, φ, phiF]
      obtain ⟨T6, F6, z6⟩ := hI.sj D6
      have hR6 := T6.2.1
      -- the end
      have fin : ∀ (r : Rul) (μ7 : Mem) (o5 o6 o7 : Option AV), Dif SJ μ μ7 → JF μ7 r → yrF r = rulF σ Λ x kind wanted u → Z RX5 cX5_judges (8, none, [], false, rmm 2 0 0) (Γ, C, μ, ad, Q) 0 0 μ7 387 [some (vr 50 0), some (vi (nI x)), some (vi kind), some (vi wanted), some (vi (bI u)), o5, o6, o7] [] := by
        intro r μ7 o5 o6 o7 D7 J7 hr
        obtain ⟨j1, j2, j3, j4, j5, j6⟩ := J7
        by_cases q : r.2.2.1 < 0
        · refine z_aload0 dX5_judges_387 (z_getI fl_X5_346 dX5_judges_388 rfl rfl (z_if_ge 400 dX5_judges_391 (by decide) (fun c => absurd c ((by rw [j3]; exact Int32.not_le.mpr q))) (fun _ => z_aload0 dX5_judges_394 (z_bipush (v := 10) dX5_judges_395 (by decide) (z_putI fl_X5_346 dX5_judges_397 rfl rfl ⟨rfl, rfl⟩ (z_return dX5_judges_400 rfl (Nat.le_of_ble_eq_true rfl) (Nat.le_of_ble_eq_true rfl) ?_))))))
          have D8 := D7.tr (Dif.sI (k := 25) (x := 10) (Or.inr (Or.inr ⟨rfl, by decide, by decide⟩)) : Dif SJ μ7 (sI μ7 50 0 25 10))
          obtain ⟨T8, F8, z8⟩ := hI.sj D8
          refine h _ T8 F8 z8 ?_
          rw [← hr]
          unfold JF yrF
          rw [if_pos q]
          simp [gI_sI, j1, j2, j4, j5, j6]
        · refine z_aload0 dX5_judges_387 (z_getI fl_X5_346 dX5_judges_388 rfl rfl (z_if_ge 400 dX5_judges_391 (by decide) (fun _ => z_return dX5_judges_400 rfl (Nat.le_of_ble_eq_true rfl) (Nat.le_of_ble_eq_true rfl) ?_) (fun c => absurd ((by rw [j3]; exact Int32.not_lt.mp q)) c)))
          obtain ⟨T8, F8, z8⟩ := hI.sj D7
          refine h _ T8 F8 z8 ?_
          rw [← hr]
          unfold JF yrF
          rw [if_neg q]
          exact ⟨j1, j2, j3, j4, j5, j6⟩
      rcases lawS_in σ (σ 7 0) (tn (σ 34 0)) with el | ⟨l, hl, el⟩
      · have el' : lawF σ (σ 7 0) = -1 := el
        refine z_aload0 dX5_judges_152 (z_aload0 dX5_judges_153 (z_getIv fl_X5_314 dX5_judges_154 rfl rfl (hR6.s7 0 (by decide)) (z_invV1 (md_X5_lawOf _) cv_X5_359 rfl dX5_judges_157 rfl (Nat.le_of_ble_eq_true rfl) (Rm.ofB rfl) (M_lawOf T6.1 hR6 hL hL2 (z_istore5 dX5_judges_160 (z_iconst (v := 0) dX5_judges_162 (by decide) (z_istore6 dX5_judges_163 (z_iload5 dX5_judges_165 (z_if_lt 387 dX5_judges_167 (by decide) (fun _ => ?_) (fun c => absurd ((by rw [el']; decide)) c))))))))))
        refine fin _ μ6 _ _ _ D6 J6 ?_
        unfold rulF
        rw [if_pos (by rw [el']; decide)]
      · have el' : lawF σ (σ 7 0) = nI l := el
        rw [hL, tn_nI (by omega)] at hl
        have hrul : rulF σ Λ x kind wanted u = yrF (jLn φ (Λ l) (Λ l).length) := by
          unfold rulF
          rw [el', if_neg (nI_pos (by omega)), tn_nI (by omega)]
        obtain ⟨m1, m2, m3⟩ := hI.2.2.2 l (by rw [hL, tn_nI (by omega)]; exact hl)
        refine z_aload0 dX5_judges_152 (z_aload0 dX5_judges_153 (z_getIv fl_X5_314 dX5_judges_154 rfl rfl (hR6.s7 0 (by decide)) (z_invV1 (md_X5_lawOf _) cv_X5_359 rfl dX5_judges_157 rfl (Nat.le_of_ble_eq_true rfl) (Rm.ofB rfl) (M_lawOf T6.1 hR6 hL hL2 (z_istore5 dX5_judges_160 (z_iconst (v := 0) dX5_judges_162 (by decide) (z_istore6 dX5_judges_163 ?_)))))))
        rw [el']
        have lp : ∀ k, k ≤ (Λ l).length → ∀ (μ7 : Mem) (o7 : Option AV), Dif SJ μ μ7 → (∀ j, j < 9 → gI μ7 72 0 j = φ j) → JF μ7 (jLn φ (Λ l) k) → Z RX5 cX5_judges (8, none, [], false, rmm 2 0 0) (Γ, C, μ, ad, Q) 0 0 μ7 165 [some (vr 50 0), some (vi (nI x)), some (vi kind), some (vi wanted), some (vi (bI u)), some (vi (nI l)), some (vi (nI k)), o7] [] := by
          refine loopN (P := fun k => ∀ (μ7 : Mem) (o7 : Option AV), Dif SJ μ μ7 → (∀ j, j < 9 → gI μ7 72 0 j = φ j) → JF μ7 (jLn φ (Λ l) k) → Z RX5 cX5_judges (8, none, [], false, rmm 2 0 0) (Γ, C, μ, ad, Q) 0 0 μ7 165 [some (vr 50 0), some (vi (nI x)), some (vi kind), some (vi wanted), some (vi (bI u)), some (vi (nI l)), some (vi (nI k)), o7] []) (Λ l).length ?_ ?_
          · intro μ7 o7 D7 φ7 J7
            obtain ⟨T7, -, -⟩ := hI.sj D7
            have hR7 := T7.2.1
            have hM7 := T7.1
            refine z_iload5 dX5_judges_165 (z_if_lt 387 dX5_judges_167 (by decide) (fun c => absurd c (nI_pos (by omega))) (fun _ => z_iload6 dX5_judges_170 (z_aload0 dX5_judges_172 (z_getP (v := some (62, 0)) fl_X5_24 dX5_judges_173 rfl rfl (hM7 11 rfl) (z_iload5 dX5_judges_176 (z_ialdv dX5_judges_178 rfl ⟨rfl, (show l < 13 by omega), Nat.le_of_ble_eq_true rfl⟩ (hR7.col 39 _ (by decide)) (z_icmp_ge 387 dX5_judges_179 (by decide) (fun _ => ?_) (fun c => absurd ((by rw [m1]; exact Int32.le_refl _)) c))))))))
            exact fin _ μ7 _ _ _ D7 J7 hrul.symm
          · intro k hk ih μ7 o7 D7 φ7 J7
            obtain ⟨T7, -, -⟩ := hI.sj D7
            have hR7 := T7.2.1
            have hM7 := T7.1
            obtain ⟨q, hq⟩ : ∃ q, (Λ l).getD k (0, 0, []) = q := ⟨_, rfl⟩
            have hcl := (T7.2.2.2 l (by rw [hL, tn_nI (by omega)]; exact hl)).2.2 k hk
            rw [hq] at hcl
            obtain ⟨c63, c64, b, c65, c66, c400, cst⟩ := hcl
            obtain ⟨hs5, hev⟩ := hE l (by rw [hL, tn_nI (by omega)]; exact hl) k hk
            rw [hq] at hs5 hev
            obtain ⟨Rr, hRv, hR1⟩ := hev φ
            have hhb : hldB φ q = topB Rr := by
              unfold hldB
              rw [hRv]
              cases Rr <;> rfl
            have ejs : jLn φ (Λ l) (k + 1) = jStp φ (jLn φ (Λ l) k) q := by rw [jLn, hq]
            rw [ejs] at ih
            have ixk : Ix ((16 : Int32) * nI l + nI k) (16 * l + k) 208 := ⟨i16 l k, by omega, by decide⟩
            refine z_iload5 dX5_judges_165 (z_if_lt 387 dX5_judges_167 (by decide) (fun c => absurd c (nI_pos (by omega))) (fun _ => z_iload6 dX5_judges_170 (z_aload0 dX5_judges_172 (z_getP (v := some (62, 0)) fl_X5_24 dX5_judges_173 rfl rfl (hM7 11 rfl) (z_iload5 dX5_judges_176 (z_ialdv dX5_judges_178 rfl ⟨rfl, (show l < 13 by omega), Nat.le_of_ble_eq_true rfl⟩ (hR7.col 39 _ (by decide)) (z_icmp_ge 387 dX5_judges_179 (by decide) (fun c => absurd c ((by rw [m1]; exact nI_ge hk (by omega)))) (fun _ => z_bipush (v := 16) dX5_judges_182 (by decide) (z_iload5 dX5_judges_184 (z_imul dX5_judges_186 (z_iload6 dX5_judges_187 (z_iadd dX5_judges_189 (z_istore7 dX5_judges_190 (z_aload0 dX5_judges_192 (z_iload5 dX5_judges_193 (z_aload0 dX5_judges_195 (z_getP (v := some (65, 0)) fl_X5_33 dX5_judges_196 rfl rfl (hM7 14 rfl) (z_iload7 dX5_judges_199 (z_ialdv dX5_judges_201 rfl ixk (c65) (z_aload0 dX5_judges_202 (z_getP (v := some (66, 0)) fl_X5_36 dX5_judges_203 rfl rfl (hM7 15 rfl) (z_iload7 dX5_judges_206 (z_ialdv dX5_judges_208 rfl ixk (c66) (z_invV3 (md_X5_holds _) cv_X5_363 rfl dX5_judges_209 rfl (Nat.le_of_ble_eq_true rfl) (Rm.ofB rfl) (M_holds hM7 rfl rfl rfl (by omega) c400 cst φ7 hRv hR1 (fun μ8 D8 => ?_))))))))))))))))))))))))))
            have D08 : Dif SJ μ μ8 := D7.tr (D8.mono fun _ _ _ z => Or.inr (Or.inl z))
            have kp8 : ∀ p j, p ≠ 73 → gI μ8 p 0 j = gI μ7 p 0 j := fun p j hp => D8.2 _ _ _ fun z => hp z
            obtain ⟨T8, -, -⟩ := hI.sj D08
            have hM8 := T8.1
            have φ8 : ∀ j, j < 9 → gI μ8 72 0 j = φ j := fun j hj => (kp8 72 j (by decide)).trans (φ7 j hj)
            have J8 : JF μ8 (jLn φ (Λ l) k) := by
              unfold JF
              rw [kp8 50 _ (by decide), kp8 50 _ (by decide), kp8 50 _ (by decide), kp8 50 _ (by decide), kp8 50 _ (by decide), kp8 50 _ (by decide)]
              exact J7
            have d63 : gI μ8 63 0 (16 * l + k) = q.1 := (kp8 63 _ (by decide)).trans c63
            have d64 : q.1 ≠ 4 → gI μ8 64 0 (16 * l + k) = q.2.1 := fun z => (kp8 64 _ (by decide)).trans (c64 z)
            cases hv : topB Rr with
            | false =>
              rw [jStp, hhb, hv, if_neg (by decide)] at ih
              refine z_if_ne 218 dX5_judges_212 (by decide) (fun c => absurd (rfl) c) (fun _ => z_goto 381 dX5_judges_215 (by decide) (z_iinc6 dX5_judges_381 (inc1 k) (z_goto 165 dX5_judges_384 (by decide) ?_)))
              exact ih μ8 _ D08 φ8 J8
            | true =>
              rw [jStp, hhb, hv, if_pos rfl] at ih
              have sJ : ∀ j, 23 ≤ j → j ≤ 28 → SJ 50 0 j := fun j a b => Or.inr (Or.inr ⟨rfl, a, b⟩)
              obtain ⟨j1, j2, j3, j4, j5, j6⟩ := J8
              obtain ⟨t, ht, et⟩ := in_nI (n := 5) hs5 rfl
              have φn : ∀ (v : Int32) (kk : Nat) j, j < 9 → gI (sI μ8 50 0 kk v) 72 0 j = φ j := fun v kk j hj => by rw [gI_sI, if_neg (by simp)]; exact φ8 j hj
              match t, ht with
              | 0, _ =>
                rw [if_pos (show q.1 = 0 from et)] at ih
                refine z_if_ne 218 dX5_judges_212 (by decide) (fun _ => z_aload0 dX5_judges_218 (z_getP (v := some (63, 0)) fl_X5_27 dX5_judges_219 rfl rfl (hM8 12 rfl) (z_iload7 dX5_judges_222 (z_ialdv dX5_judges_224 rfl ixk ((d63.trans et)) (z_tabIn 260 dX5_judges_225 (by decide) (by decide) rfl (by decide) (z_aload0 dX5_judges_260 (z_dupa dX5_judges_261 (z_getI fl_X5_340 dX5_judges_262 rfl rfl (z_aload0 dX5_judges_265 (z_getP (v := some (64, 0)) fl_X5_30 dX5_judges_266 rfl rfl (hM8 13 rfl) (z_iload7 dX5_judges_269 (z_ialdv dX5_judges_271 rfl ixk ((d64 (by rw [et]; decide))) (z_ior dX5_judges_272 (z_putI fl_X5_340 dX5_judges_273 rfl rfl ⟨rfl, rfl⟩ (z_goto 381 dX5_judges_276 (by decide) (z_iinc6 dX5_judges_381 (inc1 k) (z_goto 165 dX5_judges_384 (by decide) ?_))))))))))))))))) (fun c => absurd c (n10))
                rw [j1]
                refine ih _ _ (D08.tr (Dif.sI (sJ 23 (by decide) (by decide)))) (fun j hj => φn _ _ j hj) ?_
                unfold JF
                simp [gI_sI, j1, j2, j3, j4, j5, j6]
              | 1, _ =>
                rw [if_neg (show ¬ q.1 = 0 by rw [et]; decide), if_pos (show q.1 = 1 from et)] at ih
                refine z_if_ne 218 dX5_judges_212 (by decide) (fun _ => z_aload0 dX5_judges_218 (z_getP (v := some (63, 0)) fl_X5_27 dX5_judges_219 rfl rfl (hM8 12 rfl) (z_iload7 dX5_judges_222 (z_ialdv dX5_judges_224 rfl ixk ((d63.trans et)) (z_tabIn 279 dX5_judges_225 (by decide) (by decide) rfl (by decide) (z_aload0 dX5_judges_279 (z_dupa dX5_judges_280 (z_getI fl_X5_343 dX5_judges_281 rfl rfl (z_aload0 dX5_judges_284 (z_getP (v := some (64, 0)) fl_X5_30 dX5_judges_285 rfl rfl (hM8 13 rfl) (z_iload7 dX5_judges_288 (z_ialdv dX5_judges_290 rfl ixk ((d64 (by rw [et]; decide))) (z_iadd dX5_judges_291 (z_putI fl_X5_343 dX5_judges_292 rfl rfl ⟨rfl, rfl⟩ (z_goto 381 dX5_judges_295 (by decide) (z_iinc6 dX5_judges_381 (inc1 k) (z_goto 165 dX5_judges_384 (by decide) ?_))))))))))))))))) (fun c => absurd c (n10))
                rw [j2]
                refine ih _ _ (D08.tr (Dif.sI (sJ 24 (by decide) (by decide)))) (fun j hj => φn _ _ j hj) ?_
                unfold JF
                simp [gI_sI, j1, j2, j3, j4, j5, j6]
              | 2, _ =>
                rw [if_neg (show ¬ q.1 = 0 by rw [et]; decide), if_neg (show ¬ q.1 = 1 by rw [et]; decide), if_pos (show q.1 = 2 from et)] at ih
                refine z_if_ne 218 dX5_judges_212 (by decide) (fun _ => z_aload0 dX5_judges_218 (z_getP (v := some (63, 0)) fl_X5_27 dX5_judges_219 rfl rfl (hM8 12 rfl) (z_iload7 dX5_judges_222 (z_ialdv dX5_judges_224 rfl ixk ((d63.trans et)) (z_tabIn 298 dX5_judges_225 (by decide) (by decide) rfl (by decide) (z_aload0 dX5_judges_298 (z_aload0 dX5_judges_299 (z_getI fl_X5_346 dX5_judges_300 rfl rfl (z_aload0 dX5_judges_303 (z_getP (v := some (64, 0)) fl_X5_30 dX5_judges_304 rfl rfl (hM8 13 rfl) (z_iload7 dX5_judges_307 (z_ialdv dX5_judges_309 rfl ixk ((d64 (by rw [et]; decide))) (z_invS2 (md_J11_max _) cs_X5_366 dX5_judges_310 rfl (Nat.le_of_ble_eq_true rfl) (Rm.ofB rfl) (J_max (z_putI fl_X5_346 dX5_judges_313 rfl rfl ⟨rfl, rfl⟩ (z_goto 381 dX5_judges_316 (by decide) (z_iinc6 dX5_judges_381 (inc1 k) (z_goto 165 dX5_judges_384 (by decide) ?_)))))))))))))))))) (fun c => absurd c (n10))
                rw [j3]
                refine ih _ _ (D08.tr (Dif.sI (sJ 25 (by decide) (by decide)))) (fun j hj => φn _ _ j hj) ?_
                unfold JF
                simp [gI_sI, j1, j2, j3, j4, j5, j6]
              | 3, _ =>
                rw [if_neg (show ¬ q.1 = 0 by rw [et]; decide), if_neg (show ¬ q.1 = 1 by rw [et]; decide), if_neg (show ¬ q.1 = 2 by rw [et]; decide), if_pos (show q.1 = 3 from et)] at ih
                refine z_if_ne 218 dX5_judges_212 (by decide) (fun _ => z_aload0 dX5_judges_218 (z_getP (v := some (63, 0)) fl_X5_27 dX5_judges_219 rfl rfl (hM8 12 rfl) (z_iload7 dX5_judges_222 (z_ialdv dX5_judges_224 rfl ixk ((d63.trans et)) (z_tabIn 319 dX5_judges_225 (by decide) (by decide) rfl (by decide) (z_aload0 dX5_judges_319 (z_dupa dX5_judges_320 (z_getI fl_X5_349 dX5_judges_321 rfl rfl (z_aload0 dX5_judges_324 (z_getP (v := some (64, 0)) fl_X5_30 dX5_judges_325 rfl rfl (hM8 13 rfl) (z_iload7 dX5_judges_328 (z_ialdv dX5_judges_330 rfl ixk ((d64 (by rw [et]; decide))) (z_iadd dX5_judges_331 (z_putI fl_X5_349 dX5_judges_332 rfl rfl ⟨rfl, rfl⟩ (z_goto 381 dX5_judges_335 (by decide) (z_iinc6 dX5_judges_381 (inc1 k) (z_goto 165 dX5_judges_384 (by decide) ?_))))))))))))))))) (fun c => absurd c (n10))
                rw [j4]
                refine ih _ _ (D08.tr (Dif.sI (sJ 26 (by decide) (by decide)))) (fun j hj => φn _ _ j hj) ?_
                unfold JF
                simp [gI_sI, j1, j2, j3, j4, j5, j6]
              | 4, _ =>
                rw [if_neg (show ¬ q.1 = 0 by rw [et]; decide), if_neg (show ¬ q.1 = 1 by rw [et]; decide), if_neg (show ¬ q.1 = 2 by rw [et]; decide), if_neg (show ¬ q.1 = 3 by rw [et]; decide), if_pos (show q.1 = 4 from et)] at ih
                refine z_if_ne 218 dX5_judges_212 (by decide) (fun _ => z_aload0 dX5_judges_218 (z_getP (v := some (63, 0)) fl_X5_27 dX5_judges_219 rfl rfl (hM8 12 rfl) (z_iload7 dX5_judges_222 (z_ialdv dX5_judges_224 rfl ixk ((d63.trans et)) (z_tabIn 338 dX5_judges_225 (by decide) (by decide) rfl (by decide) (z_aload0 dX5_judges_338 (z_iconst (v := 1) dX5_judges_339 (by decide) (z_putI fl_X5_355 dX5_judges_340 rfl rfl ⟨rfl, rfl⟩ (z_goto 381 dX5_judges_343 (by decide) (z_iinc6 dX5_judges_381 (inc1 k) (z_goto 165 dX5_judges_384 (by decide) ?_))))))))))) (fun c => absurd c (n10))
                refine ih _ _ (D08.tr (Dif.sI (sJ 28 (by decide) (by decide)))) (fun j hj => φn _ _ j hj) ?_
                unfold JF
                simp [gI_sI, j1, j2, j3, j4, j5, j6]
              | 5, _ =>
                rw [if_neg (show ¬ q.1 = 0 by rw [et]; decide), if_neg (show ¬ q.1 = 1 by rw [et]; decide), if_neg (show ¬ q.1 = 2 by rw [et]; decide), if_neg (show ¬ q.1 = 3 by rw [et]; decide), if_neg (show ¬ q.1 = 4 by rw [et]; decide)] at ih
                by_cases qb : (jLn φ (Λ l) k).2.2.2.2.1 < 0
                · rw [if_pos qb] at ih
                  refine z_if_ne 218 dX5_judges_212 (by decide) (fun _ => z_aload0 dX5_judges_218 (z_getP (v := some (63, 0)) fl_X5_27 dX5_judges_219 rfl rfl (hM8 12 rfl) (z_iload7 dX5_judges_222 (z_ialdv dX5_judges_224 rfl ixk ((d63.trans et)) (z_tabOut 346 dX5_judges_225 (by decide) (by decide) (z_aload0 dX5_judges_346 (z_aload0 dX5_judges_347 (z_getI fl_X5_352 dX5_judges_348 rfl rfl (z_if_ge 364 dX5_judges_351 (by decide) (fun c => absurd c ((by rw [j5]; exact Int32.not_le.mpr qb))) (fun _ => z_aload0 dX5_judges_354 (z_getP (v := some (64, 0)) fl_X5_30 dX5_judges_355 rfl rfl (hM8 13 rfl) (z_iload7 dX5_judges_358 (z_ialdv dX5_judges_360 rfl ixk ((d64 (by rw [et]; decide))) (z_goto 378 dX5_judges_361 (by decide) (z_putI fl_X5_352 dX5_judges_378 rfl rfl ⟨rfl, rfl⟩ (z_iinc6 dX5_judges_381 (inc1 k) (z_goto 165 dX5_judges_384 (by decide) ?_))))))))))))))))) (fun c => absurd c (n10))
                  refine ih _ _ (D08.tr (Dif.sI (sJ 27 (by decide) (by decide)))) (fun j hj => φn _ _ j hj) ?_
                  unfold JF
                  simp [gI_sI, j1, j2, j3, j4, j6]
                · rw [if_neg qb] at ih
                  refine z_if_ne 218 dX5_judges_212 (by decide) (fun _ => z_aload0 dX5_judges_218 (z_getP (v := some (63, 0)) fl_X5_27 dX5_judges_219 rfl rfl (hM8 12 rfl) (z_iload7 dX5_judges_222 (z_ialdv dX5_judges_224 rfl ixk ((d63.trans et)) (z_tabOut 346 dX5_judges_225 (by decide) (by decide) (z_aload0 dX5_judges_346 (z_aload0 dX5_judges_347 (z_getI fl_X5_352 dX5_judges_348 rfl rfl (z_if_ge 364 dX5_judges_351 (by decide) (fun _ => z_aload0 dX5_judges_364 (z_getI fl_X5_352 dX5_judges_365 rfl rfl (z_aload0 dX5_judges_368 (z_getP (v := some (64, 0)) fl_X5_30 dX5_judges_369 rfl rfl (hM8 13 rfl) (z_iload7 dX5_judges_372 (z_ialdv dX5_judges_374 rfl ixk ((d64 (by rw [et]; decide))) (z_invS2 (md_J11_min _) cs_X5_369 dX5_judges_375 rfl (Nat.le_of_ble_eq_true rfl) (Rm.ofB rfl) (J_min (z_putI fl_X5_352 dX5_judges_378 rfl rfl ⟨rfl, rfl⟩ (z_iinc6 dX5_judges_381 (inc1 k) (z_goto 165 dX5_judges_384 (by decide) ?_))))))))))) (fun c => absurd ((by rw [j5]; exact Int32.not_lt.mp qb)) c)))))))))) (fun c => absurd c (n10))
                  rw [j5]
                  refine ih _ _ (D08.tr (Dif.sI (sJ 27 (by decide) (by decide)))) (fun j hj => φn _ _ j hj) ?_
                  unfold JF
                  simp [gI_sI, j1, j2, j3, j4, j6]
              | t + 6, ht => omega
        exact lp 0 (Nat.zero_le _) μ6 _ D6 φ6 J6
    cases u with
    | true =>
      refine z_aload0 dX5_judges_105 (z_getP (v := some (72, 0)) fl_X5_48 dX5_judges_106 rfl rfl (hM5 21 rfl) (z_bipush (v := 8) dX5_judges_109 (by decide) (z_iload4 dX5_judges_111 (z_if_eq 120 dX5_judges_113 (by decide) (fun c => absurd c (n10)) (fun _ => z_iconst (v := 1) dX5_judges_116 (by decide) (z_goto 121 dX5_judges_117 (by decide) ?_))))))
      exact j121
    | false =>
      refine z_aload0 dX5_judges_105 (z_getP (v := some (72, 0)) fl_X5_48 dX5_judges_106 rfl rfl (hM5 21 rfl) (z_bipush (v := 8) dX5_judges_109 (by decide) (z_iload4 dX5_judges_111 (z_if_eq 120 dX5_judges_113 (by decide) (fun _ => z_iconst (v := 0) dX5_judges_120 (by decide) ?_) (fun c => absurd (rfl) c)))))
      exact j121
  -- kinds
  have stK : ∀ k, k ≤ 4 → ∀ μ4, Dif SJ μ μ4 → (∀ j, j < 4 + k → gI μ4 72 0 j = φ j) → Z RX5 cX5_judges (8, none, [], false, rmm 2 0 0) (Γ, C, μ, ad, Q) (0) (0) (μ4) 73 [some (vr 50 0), some (vi (nI x)), some (vi kind), some (vi wanted), some (vi (bI u)), some (vi (nI k)), none, none] [] := by
    refine loopN (P := fun k => ∀ μ4, Dif SJ μ μ4 → (∀ j, j < 4 + k → gI μ4 72 0 j = φ j) → Z RX5 cX5_judges (8, none, [], false, rmm 2 0 0) (Γ, C, μ, ad, Q) (0) (0) (μ4) 73 [some (vr 50 0), some (vi (nI x)), some (vi kind), some (vi wanted), some (vi (bI u)), some (vi (nI k)), none, none] []) 4 ?_ ?_
    · intro μ4 D4 h4
      refine z_iload5 dX5_judges_73 (z_iconst (v := 4) dX5_judges_75 (by decide) (z_icmp_ge 105 dX5_judges_76 (by decide) (fun _ => ?_) (fun c => absurd (lpt (n := 4) rfl) c)))
      exact stL μ4 D4 h4 _
    · intro k hk ih μ4 D4 h4
      have hM4 := (hI.sj D4).1.1
      have ixk : Ix ((4 : Int32) + nI k) (4 + k) 9 := ⟨by rw [show (4 : Int32) = nI 4 from rfl, nI_add], by omega, by decide⟩
      have ek : φ (4 + k) = if kind = nI k then 1 else 0 := by
        show phiF σ x kind wanted u (4 + k) = _
        unfold phiF
        rw [if_neg (by omega), if_neg (by omega), if_neg (by omega), if_neg (by omega), if_neg (by omega), show 4 + k - 4 = k by omega]
      have put : ∀ v, v = φ (4 + k) → ∀ j, j < 4 + (k + 1) → gI (sI μ4 72 0 (4 + k) v) 72 0 j = φ j := fun v hv j hj => by
        rw [gI_sI]
        split
        · rename_i z; rw [z.2.2]; exact hv
        · rename_i z; exact h4 j (by have : j ≠ 4 + k := fun y => z ⟨rfl, rfl, y⟩; omega)
      by_cases q : kind = nI k
      · refine z_iload5 dX5_judges_73 (z_iconst (v := 4) dX5_judges_75 (by decide) (z_icmp_ge 105 dX5_judges_76 (by decide) (fun c => absurd c (lpf (n := 4) rfl hk (by decide))) (fun _ => z_aload0 dX5_judges_79 (z_getP (v := some (72, 0)) fl_X5_48 dX5_judges_80 rfl rfl (hM4 21 rfl) (z_iconst (v := 4) dX5_judges_83 (by decide) (z_iload5 dX5_judges_84 (z_iadd dX5_judges_86 (z_iload2 dX5_judges_87 (z_iload5 dX5_judges_88 (z_icmp_ne 97 dX5_judges_90 (by decide) (fun c => absurd (q) c) (fun _ => z_iconst (v := 1) dX5_judges_93 (by decide) (z_goto 98 dX5_judges_94 (by decide) (z_iast dX5_judges_98 rfl ixk (z_iinc5 dX5_judges_99 (inc1 k) (z_goto 73 dX5_judges_102 (by decide) ?_)))))))))))))))
        exact ih _ (D4.tr (Dif.sI (Or.inl rfl))) (put 1 (by rw [ek, if_pos q]))
      · refine z_iload5 dX5_judges_73 (z_iconst (v := 4) dX5_judges_75 (by decide) (z_icmp_ge 105 dX5_judges_76 (by decide) (fun c => absurd c (lpf (n := 4) rfl hk (by decide))) (fun _ => z_aload0 dX5_judges_79 (z_getP (v := some (72, 0)) fl_X5_48 dX5_judges_80 rfl rfl (hM4 21 rfl) (z_iconst (v := 4) dX5_judges_83 (by decide) (z_iload5 dX5_judges_84 (z_iadd dX5_judges_86 (z_iload2 dX5_judges_87 (z_iload5 dX5_judges_88 (z_icmp_ne 97 dX5_judges_90 (by decide) (fun _ => z_iconst (v := 0) dX5_judges_97 (by decide) (z_iast dX5_judges_98 rfl ixk (z_iinc5 dX5_judges_99 (inc1 k) (z_goto 73 dX5_judges_102 (by decide) ?_)))) (fun c => absurd c (q))))))))))))
        exact ih _ (D4.tr (Dif.sI (Or.inl rfl))) (put 0 (by rw [ek, if_neg q]))
  have put3 : ∀ v, v = φ 3 → ∀ j, j < 4 + 0 → gI (sI μ3 72 0 3 v) 72 0 j = φ j := fun v hv j hj => by
    have : j = 0 ∨ j = 1 ∨ j = 2 ∨ j = 3 := by omega
    rcases this with rfl | rfl | rfl | rfl
    · rw [gI_sI, if_neg (by simp)]; exact P3.1
    · rw [gI_sI, if_neg (by simp)]; exact P3.2.1
    · rw [gI_sI, if_neg (by simp)]; exact P3.2.2
    · rw [gI_sI, if_pos ⟨rfl, rfl, rfl⟩]; exact hv
  have e3 : φ 3 = if σ 25 x = 0 then 0 else 1 := rfl
  by_cases q : σ 25 x = 0
  · refine z_aload0 dX5_judges_50 (z_getP (v := some (72, 0)) fl_X5_48 dX5_judges_51 rfl rfl (hM3 21 rfl) (z_iconst (v := 3) dX5_judges_54 (by decide) (z_aload0 dX5_judges_55 (z_getP (v := some (81, 0)) fl_X5_58 dX5_judges_56 rfl rfl (hM3 30 rfl) (z_iload1 dX5_judges_59 (z_zaldv dX5_judges_60 rfl ⟨rfl, hx, Nat.le_of_ble_eq_true rfl⟩ (hR3.col 25 _ (by decide)) (z_if_eq 68 dX5_judges_61 (by decide) (fun _ => z_iconst (v := 0) dX5_judges_68 (by decide) (z_iast dX5_judges_69 rfl ⟨rfl, (show 3 < 9 by decide), Nat.le_of_ble_eq_true rfl⟩ (z_iconst (v := 0) dX5_judges_70 (by decide) (z_istore5 dX5_judges_71 ?_)))) (fun c => absurd (q) c))))))))
    exact stK 0 (by decide) _ (D3.tr (Dif.sI (Or.inl rfl))) (put3 0 (by rw [e3, if_pos q]))
  · refine z_aload0 dX5_judges_50 (z_getP (v := some (72, 0)) fl_X5_48 dX5_judges_51 rfl rfl (hM3 21 rfl) (z_iconst (v := 3) dX5_judges_54 (by decide) (z_aload0 dX5_judges_55 (z_getP (v := some (81, 0)) fl_X5_58 dX5_judges_56 rfl rfl (hM3 30 rfl) (z_iload1 dX5_judges_59 (z_zaldv dX5_judges_60 rfl ⟨rfl, hx, Nat.le_of_ble_eq_true rfl⟩ (hR3.col 25 _ (by decide)) (z_if_eq 68 dX5_judges_61 (by decide) (fun c => absurd c (q)) (fun _ => z_iconst (v := 1) dX5_judges_64 (by decide) (z_goto 69 dX5_judges_65 (by decide) (z_iast dX5_judges_69 rfl ⟨rfl, (show 3 < 9 by decide), Nat.le_of_ble_eq_true rfl⟩ (z_iconst (v := 0) dX5_judges_70 (by decide) (z_istore5 dX5_judges_71 ?_))))))))))))
    exact stK 0 (by decide) _ (D3.tr (Dif.sI (Or.inl rfl))) (put3 1 (by rw [e3, if_neg q]))
end M22
