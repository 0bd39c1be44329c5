/-! the Office: ask -/
section O16
variable {μ μ' : Mem} {σ : Sg} {Λ : Lws} {Q : Res → Mem → Prop}
theorem X_akInit {j : Nat} {a b c d e : Int32} {f : Bool} {hd : Nat × Nat} (h : Q rV (sP (sI (sI (sI (sI (sI (sI μ 33 j 0 a) 33 j 1 b) 33 j 2 c) 33 j 3 d) 33 j 4 e) 33 j 5 (bI f)) 33 j 6 (some hd))) : Ct RX14 cX14_init (8, none, [], true, rmm 1 0 0) [vr 33 j, vi a, vi b, vi c, vi d, vi e, vi (bI f), vo (some hd)] μ Q := by
  refine Ct.of (ls := [some (vr 33 j), some (vi a), some (vi b), some (vi c), some (vi d), some (vi e), some (vi (bI f)), some (vo (some hd))]) rfl fun Γ C ad => ?_
  refine z_aload0 dX14_init_0 (z_objInit co_X14_1 dX14_init_1 (by decide) (by decide) (z_aload0 dX14_init_4 (z_iload1 dX14_init_5 (z_putFI ff_X14_7 rfl dX14_init_6 rfl rfl ⟨rfl, rfl⟩ (z_aload0 dX14_init_9 (z_iload2 dX14_init_10 (z_putFI ff_X14_13 rfl dX14_init_11 rfl rfl ⟨rfl, rfl⟩ (z_aload0 dX14_init_14 (z_iload3 dX14_init_15 (z_putFI ff_X14_16 rfl dX14_init_16 rfl rfl ⟨rfl, rfl⟩ (z_aload0 dX14_init_19 (z_iload4 dX14_init_20 (z_putFI ff_X14_19 rfl dX14_init_22 rfl rfl ⟨rfl, rfl⟩ (z_aload0 dX14_init_25 (z_iload5 dX14_init_26 (z_putFI ff_X14_22 rfl dX14_init_28 rfl rfl ⟨rfl, rfl⟩ (z_aload0 dX14_init_31 (z_iload6 dX14_init_32 (z_putFI ff_X14_25 rfl dX14_init_34 rfl rfl (bI_put _) (z_aload0 dX14_init_37 (z_aload7 dX14_init_38 (z_putFP ff_X14_29 rfl dX14_init_40 rfl rfl (z_return dX14_init_43 rfl (Nat.le_of_ble_eq_true rfl) (Nat.le_of_ble_eq_true rfl) ?_)))))))))))))))))))))))
  exact h
theorem clean_nw (cl : ∀ p i j, gC μ p ≤ i → gI μ p i j = 0 ∧ gP μ p i j = none) (q n p i k : Nat) : gI (nw μ q n) p i k = gI μ p i k ∧ gP (nw μ q n) p i k = gP μ p i k := by
  rw [gI_nw, gP_nw]
  by_cases z : p = q ∧ i = gC μ q
  · rw [if_pos z, if_pos z, z.1, z.2]
    exact ⟨(cl q _ k (Nat.le_refl _)).1.symm, (cl q _ k (Nat.le_refl _)).2.symm⟩
  · rw [if_neg z, if_neg z]
    exact ⟨rfl, rfl⟩
theorem RepX.cl (h : RepX 0 σ μ) (e : ∀ p i k, gI μ' p i k = gI μ p i k) : RepX 0 σ μ' := fun c i hs => by
  unfold gX
  rw [e]
  exact h c i hs
theorem RepX.n33 {a : Nat} {v : Int32} (h : RepX 0 σ μ) : RepX 0 σ (sI μ 33 a 0 v) := fun c i hs => by
  unfold gX
  rw [gI_sI, if_neg]
  · exact h c i hs
  · rintro ⟨q1, q2, q3⟩
    have e : xl 0 c i = (33, a, 0) := Prod.ext q1 (Prod.ext q2 q3)
    have z := xinv_xl (w := 0) (by decide) hs
    rw [e] at z
    have : (99 : Nat) = c := congrArg Prod.fst z
    have := sX_lt hs
    omega
/-- a ruling of an asking, in the table -/
theorem RepX.ru {a : Nat} {r : Rul} (h : RepX 0 σ μ) (hF : FX (fun p i _ => (p = 32 ∧ i = a) ∨ p = 21) (fun p => p = 32) μ μ') (e0 : gI μ' 32 a 0 = r.1) (e1 : gI μ' 32 a 1 = r.2.1) (e2 : gI μ' 32 a 2 = r.2.2.1) (e3 : gI μ' 32 a 3 = r.2.2.2.1) (e4 : gI μ' 32 a 4 = r.2.2.2.2.1) (e5 : gI μ' 32 a 5 = r.2.2.2.2.2) :
    RepX 0 (up2 (up2 (up2 (up2 (up2 (up2 σ 17 a r.1) 18 a r.2.1) 19 a r.2.2.1) 20 a r.2.2.2.1) 21 a r.2.2.2.2.2) 22 a r.2.2.2.2.1) μ' := by
  intro c i hs
  by_cases hc : (17 ≤ c ∧ c ≤ 22) ∧ i = a
  · obtain ⟨hc, rfl⟩ := hc
    have : c = 17 ∨ c = 18 ∨ c = 19 ∨ c = 20 ∨ c = 21 ∨ c = 22 := by omega
    rcases this with rfl | rfl | rfl | rfl | rfl | rfl
    · show gI μ' 32 i 0 = _; rw [e0]; simp [up2_eq, eX]
    · show gI μ' 32 i 1 = _; rw [e1]; simp [up2_eq, eX]
    · show gI μ' 32 i 2 = _; rw [e2]; simp [up2_eq, eX]
    · show gI μ' 32 i 3 = _; rw [e3]; simp [up2_eq, eX]
    · show gI μ' 32 i 5 = _; rw [e5]; simp [up2_eq, eX]
    · show gI μ' 32 i 4 = _; rw [e4]; simp [up2_eq, eX]
  · simp only [up2_eq]
    rw [if_neg (by omega), if_neg (by omega), if_neg (by omega), if_neg (by omega), if_neg (by omega), if_neg (by omega)]
    unfold gX
    rw [hF.I]
    · exact h c i hs
    · rintro (⟨q1, q2⟩ | q)
      · have h7 : c ≠ 7 ∧ c ≠ 34 := by
          constructor
          · rintro rfl; have := xl_4 (c := 7) (i := i) (Or.inl rfl); omega
          · rintro rfl; have := xl_4 (c := 34) (i := i) (Or.inr rfl); omega
        have e := xl_p (i := i) h7.1 h7.2
        rw [q1] at e
        have key : ∀ c, c < 40 → xpL.getD c 0 = 32 → 17 ≤ c ∧ c ≤ 22 := by decide
        have hcc := key c (sX_lt hs) e.symm
        rw [xl_i (by omega)] at q2
        exact hc ⟨hcc, q2⟩
      · exact xl_sc hs (by unfold SC; omega)
def ak1 (μ : Mem) (a : Nat) (n p k t w : Int32) (u : Bool) : Mem := sP (sI (sI (sI (sI (sI (sI μ 33 a 0 n) 33 a 1 p) 33 a 2 k) 33 a 3 t) 33 a 4 w) 33 a 5 (bI u)) 33 a 6 (some (32, a))
def ak2 (μ : Mem) (a : Nat) (items : Int32) : Mem := sI (sI (sI (sI (sI (nw μ 34 0) 34 a 2 (-1)) 34 a 3 (-1)) 34 a 4 (-1)) 34 a 5 (-1)) 34 a 1 items
def ak3 (μ : Mem) (a : Nat) : Mem := sP (sP μ 15 0 a (some (33, a))) 16 0 a (some (34, a))
set_option maxRecDepth 10000 in
theorem O_ask {p kind wanted items : Int32} {u : Bool} (hI : TX σ Λ μ) (hC : CT σ) (h : ∀ r μ', TX (pAsk σ Λ p kind wanted items u).1 Λ μ' → Fx μ μ' → XR [40, 38, 39] (pAsk σ Λ p kind wanted items u).2.1 (rI (pAsk σ Λ p kind wanted items u).2.2) r → Q r μ') : Ct RX1 cX1_ask (9, some .int, [], false, rmm 404 7 45) [vr 1 0, vi p, vi kind, vi wanted, vi items, vi (bI u)] μ Q := by
  refine Ct.of (ls := [some (vr 1 0), some (vi p), some (vi kind), some (vi wanted), some (vi items), some (vi (bI u)), none, none, none]) rfl fun Γ C ad => ?_
  have hX := hI.1
  have hR := hI.2.1
  have np := hC.np
  have na := hC.na
  unfold pAsk at h
  by_cases h1 : isP σ p
  · obtain ⟨j, hj, e⟩ := hC.isP h1
    have tj : tn p = j := by rw [e, tn_nI (by omega)]
    rw [if_neg (nn h1), tj] at h
    by_cases h2 : isK σ kind wanted
    · by_cases h3 : 0 ≤ items ∧ items ≤ 255
      · rw [if_neg (nn ⟨h2, h3⟩)] at h
        obtain ⟨a, ea, ean⟩ : ∃ a, a = tn (σ 34 2) ∧ σ 34 2 = nI a := ⟨_, rfl, hC.2.2.1.1⟩
        by_cases h4 : σ 34 2 = 120
        · rw [if_pos h4] at h
          refine z_aload0 dX1_ask_0 (z_iload1 dX1_ask_1 (z_invV1 (md_X1_personAt _) cv_X1_201 rfl dX1_ask_2 rfl (Nat.le_of_ble_eq_true rfl) (Rm.ofB rfl) (X_personT hX hR h1 e hj np (z_astore6 dX1_ask_5 (z_aload0 dX1_ask_7 (z_iload2 dX1_ask_8 (z_iload3 dX1_ask_9 (z_invV2 (md_X1_isAsked _) cv_X1_245 rfl dX1_ask_10 rfl (Nat.le_of_ble_eq_true rfl) (Rm.ofB rfl) (X_askedT hX hR h2 (z_iload4 dX1_ask_13 (z_invS1 (md_X1_isItems _) cs_X1_267 dX1_ask_15 rfl (Nat.le_of_ble_eq_true rfl) (Rm.ofB rfl) (X_itemsT h3 (z_aload0 dX1_ask_18 (z_getIv fl_X1_122 dX1_ask_19 rfl rfl (hR.t 2 (by decide)) (z_bipush (v := 120) dX1_ask_22 (by decide) (z_icmp_ge 31 dX1_ask_24 (by decide) (fun _ => z_iconst (v := 0) dX1_ask_31 (by decide) (z_invS1 (md_X1_mayBe _) cs_X1_158 dX1_ask_32 rfl (Nat.le_of_ble_eq_true rfl) (Rm.ofB rfl) (X_mayBeF ?_))) (fun c => absurd ((by rw [h4]; decide)) c)))))))))))))))))
          exact fun μ' i q => ⟨rfl, h _ _ (hI.exc q) (Fx.exc q) XR.e3⟩
        · rw [if_neg h4, ← ea] at h
          have ha : a < 120 := by
            have : a ≠ 120 := fun q => h4 (by rw [ean, q]; rfl)
            omega
          have hlt : ¬ (120 : Int32) ≤ σ 34 2 := by rw [ean]; exact nI_ge (a := a) (b := 120) ha (by decide)
          have c33 : gC μ 33 = a := by rw [ea]; exact hX.2.2.2.2.2.2.1.2.1
          have c34 : gC μ 34 = a := by rw [ea]; exact hX.2.2.2.2.2.2.1.2.2.1
          have c32 : gC μ 32 = a := by rw [ea]; exact hX.2.2.2.2.2.2.1.2.2.2
          generalize hr : rulF σ Λ j kind wanted u = r at h
          refine z_clean fun cl => ?_
          have m1 := clean_nw cl 33 0
          have R1 : RepX 0 σ (nw μ 33 0) := hR.cl fun p i k => (m1 p i k).1
          have kp1 : KP μ (nw μ 33 0) := KP.nw fun _ => rfl
          have L1 : LawX σ Λ (nw μ 33 0) := hI.2.2.1.kp kp1 rfl (fun _ => rfl) (fun l _ => (m1 26 l 2).2)
          have C1 : ∀ p, gC (nw μ 33 0) p = if p = 33 then a + 1 else gC μ p := fun p => by rw [gC_nw, c33]
          have X1 : XQ (tn (σ 34 1)) (tn (σ 7 4)) (tn (σ 34 0)) (nw μ 33 0) := hX.xq.of fun p i k _ => (m1 p i k).2
          refine z_aload0 dX1_ask_0 (z_iload1 dX1_ask_1 (z_invV1 (md_X1_personAt _) cv_X1_201 rfl dX1_ask_2 rfl (Nat.le_of_ble_eq_true rfl) (Rm.ofB rfl) (X_personT hX hR h1 e hj np (z_astore6 dX1_ask_5 (z_aload0 dX1_ask_7 (z_iload2 dX1_ask_8 (z_iload3 dX1_ask_9 (z_invV2 (md_X1_isAsked _) cv_X1_245 rfl dX1_ask_10 rfl (Nat.le_of_ble_eq_true rfl) (Rm.ofB rfl) (X_askedT hX hR h2 (z_iload4 dX1_ask_13 (z_invS1 (md_X1_isItems _) cs_X1_267 dX1_ask_15 rfl (Nat.le_of_ble_eq_true rfl) (Rm.ofB rfl) (X_itemsT h3 (z_aload0 dX1_ask_18 (z_getIv fl_X1_122 dX1_ask_19 rfl rfl (hR.t 2 (by decide)) (z_bipush (v := 120) dX1_ask_22 (by decide) (z_icmp_ge 31 dX1_ask_24 (by decide) (fun c => absurd c (hlt)) (fun _ => z_iconst (v := 1) dX1_ask_27 (by decide) (z_goto 32 dX1_ask_28 (by decide) ?_))))))))))))))))))
          refine z_invS1 (md_X1_mayBe _) cs_X1_158 dX1_ask_32 rfl (Nat.le_of_ble_eq_true rfl) (Rm.gn (leB rfl) (leB rfl) (leB rfl) (leB rfl)) (X_mayBeT (z_new 33 nw_X1_33 dX1_ask_35 rfl (by decide) rfl (Nat.le_of_ble_eq_true rfl) (Nat.le_of_ble_eq_true rfl) (z_dupa dX1_ask_38 (z_aload0 dX1_ask_39 (z_getIv fl_X1_122 dX1_ask_40 rfl rfl (R1.t 2 (by decide)) (z_iload1 dX1_ask_43 (z_iload2 dX1_ask_44 (z_aload0 dX1_ask_45 (z_getP fl_X1_42 dX1_ask_46 rfl rfl (X1.f1 5 (by decide)) (z_getIv fl_X1_140 dX1_ask_49 rfl rfl (R1.wd 0 (by decide)) (z_iload3 dX1_ask_52 (z_iload5 dX1_ask_53 (z_aload0 dX1_ask_55 (z_iload1 dX1_ask_56 (z_iload2 dX1_ask_57 (z_iload3 dX1_ask_58 (z_iload5 dX1_ask_59 (z_invV4 (md_X1_ruling _) cv_X1_249 rfl dX1_ask_61 rfl (Nat.le_of_ble_eq_true rfl) (Rm.gn (leB rfl) (leB rfl) (leB rfl) (leB rfl)) (X_ruling (P := 32) (Λ := Λ) rfl (Or.inl rfl) X1 R1 L1 e hj np hC.2.2.2.2.1.1 hC.nb hC.1.1 hC.ng (fun μ2 hW => ?_))))))))))))))))))))
          rw [hr] at hW
          have C32 : gC (nw μ 33 0) 32 = a := by rw [C1, if_neg (by decide)]; exact c32
          obtain ⟨F2, w0, w1, w2, w3, w4, w5, w6⟩ := hW
          rw [C32] at F2 w0 w1 w2 w3 w4 w5 w6
          rw [C32, c33]
          have R2 := R1.ru F2 w1 w2 w3 w4 w5 w6
          have X2 : XQ (tn (σ 34 1)) (tn (σ 7 4)) (tn (σ 34 0)) μ2 := X1.of fun p i k hp => F2.P i k (by omega)
          have C2 : ∀ p, gC μ2 p = if p = 32 then a + 1 else if p = 33 then a + 1 else gC μ p := fun p => by
            by_cases q : p = 32
            · rw [if_pos q, q]; exact w0
            · rw [if_neg q, F2.C q, C1]
          have c34' : ∀ n' p' k' t' w', gC (ak1 μ2 a n' p' k' t' w' u) 34 = a := fun _ _ _ _ _ => by
            show gC μ2 34 = a
            rw [C2, if_neg (by decide), if_neg (by decide)]; exact c34
          have g342 : gI μ2 1 0 15 = σ 34 2 := R2.t 2 (by decide)
          have g3412 : gI μ2 1 0 25 = σ 34 12 := R2.t 12 (by decide)
          have gfee : gI μ2 32 a 1 = r.2.1 := w2
          refine z_invI7 (md_X14_init _) ci_X1_270 dX1_ask_64 rfl (Nat.le_of_ble_eq_true rfl) (Rm.gn (leB rfl) (leB rfl) (leB rfl) (leB rfl)) (X_akInit (hd := (32, a)) (z_astore7 dX1_ask_67 ?_))
          refine (?_ : Z RX1 cX1_ask (9, some .int, [], false, rmm 404 7 45) (Γ, C, μ, ad, Q) 6 37 (ak1 μ2 a (σ 34 2) p kind (σ 7 0) wanted u) 69 [some (vr 1 0), some (vi p), some (vi kind), some (vi wanted), some (vi items), some (vi (bI u)), some (vr 23 j), some (vr 33 a), none] [])
          refine z_new 34 nw_X1_237 dX1_ask_69 rfl (by decide) rfl (Nat.le_of_ble_eq_true rfl) (Nat.le_of_ble_eq_true rfl) (z_dupa dX1_ask_72 (z_invI0 (md_X15_init _) ci_X1_273 dX1_ask_73 rfl (Nat.le_of_ble_eq_true rfl) (Rm.gn (leB rfl) (leB rfl) (leB rfl) (leB rfl)) (X_mvInit (w := 0) (by decide) (z_astore8 dX1_ask_76 (z_aload8 dX1_ask_78 (z_iload4 dX1_ask_80 (z_putI fl_X1_274 dX1_ask_82 rfl rfl ⟨rfl, rfl⟩ ?_)))))))
          rw [c34']
          refine (?_ : Z RX1 cX1_ask (9, some .int, [], false, rmm 404 7 45) (Γ, C, μ, ad, Q) 7 45 (ak2 (ak1 μ2 a (σ 34 2) p kind (σ 7 0) wanted u) a items) 85 [some (vr 1 0), some (vi p), some (vi kind), some (vi wanted), some (vi items), some (vi (bI u)), some (vr 23 j), some (vr 33 a), some (vr 34 a)] [])
          generalize hm5 : ak2 (ak1 μ2 a (σ 34 2) p kind (σ 7 0) wanted u) a items = μ5
          have I5 : ∀ p' i k, p' ≠ 33 → p' ≠ 34 → gI μ5 p' i k = gI μ2 p' i k := by
            intro p' i k n1 n2
            rw [← hm5]
            unfold ak2 ak1
            simp only [gI_sI, gI_nw, gI_sP]
            simp [n1, n2]
          have C5 : ∀ p', gC μ5 p' = if p' = 34 then a + 1 else gC μ2 p' := by
            intro p'
            rw [← hm5]
            show gC (nw (ak1 μ2 a (σ 34 2) p kind (σ 7 0) wanted u) 34 0) p' = _
            rw [gC_nw, c34']
            rfl
          have P5 : ∀ p' i k, gP μ5 p' i k = if p' = 34 ∧ i = a then none else if p' = 33 ∧ i = a ∧ k = 6 then some (32, a) else gP μ2 p' i k := by
            intro p' i k
            rw [← hm5]
            show gP (nw (ak1 μ2 a (σ 34 2) p kind (σ 7 0) wanted u) 34 0) p' i k = _
            rw [gP_nw, c34']
            unfold ak1
            rw [gP_sP]
            rfl
          have X5 : XQ (tn (σ 34 1)) (tn (σ 7 4)) (tn (σ 34 0)) μ5 := X2.of fun p i k hp => by rw [P5, if_neg (by omega), if_neg (by omega)]
          have g342 : gI μ5 1 0 15 = σ 34 2 := (I5 1 0 15 (by decide) (by decide)).trans g342
          have g3412 : gI μ5 1 0 25 = σ 34 12 := (I5 1 0 25 (by decide) (by decide)).trans g3412
          have gfee : gI μ5 32 a 1 = r.2.1 := (I5 32 a 1 (by decide) (by decide)).trans gfee
          have gnum : gI μ5 33 a 0 = σ 34 2 := by
            rw [← hm5]
            unfold ak2 ak1
            simp only [gI_sI, gI_nw, gI_sP]
            simp
          have gru : gP μ5 33 a 6 = some (32, a) := by rw [P5, if_neg (by simp), if_pos ⟨rfl, rfl, rfl⟩]
          have R5 : RepX 0 (up2 (up2 (up2 (up2 (up2 (up2 (up2 (up2 (up2 (up2 (up2 (up2 (up2 (up2 (up2 (up2 σ 17 a r.1) 18 a r.2.1) 19 a r.2.2.1) 20 a r.2.2.2.1) 21 a r.2.2.2.2.2) 22 a r.2.2.2.2.1) 12 a p) 13 a kind) 14 a (σ 7 0)) 15 a wanted) 16 a (bI u)) 1 a (-1)) 2 a (-1)) 3 a (-1)) 4 a (-1)) 23 a items) μ5 := by
            have a1 := ((((R2.n33 (a := a) (v := σ 34 2)).set (by decide) 12 a p (sX_col (by decide))).set (by decide) 13 a kind (sX_col (by decide))).set (by decide) 14 a (σ 7 0) (sX_col (by decide)))
            have a2 := ((a1.set (by decide) 15 a wanted (sX_col (by decide))).set (by decide) 16 a (bI u) (sX_col (by decide)))
            have a3 : RepX 0 _ (ak1 μ2 a (σ 34 2) p kind (σ 7 0) wanted u) := a2
            have a4 := a3.wN 34 0
            rw [c34'] at a4
            have a5 := ((((a4.set (by decide) 1 a (-1) (sX_col (by decide))).set (by decide) 2 a (-1) (sX_col (by decide))).set (by decide) 3 a (-1) (sX_col (by decide))).set (by decide) 4 a (-1) (sX_col (by decide))).set (by decide) 23 a items (sX_col (by decide))
            rw [← hm5]
            refine RepX.cgs (show RepX 0 _ (ak2 (ak1 μ2 a (σ 34 2) p kind (σ 7 0) wanted u) a items) from a5) fun c i hs => ?_
            have z0 : ∀ c, c = 0 ∨ c = 5 ∨ c = 6 → σ c a = 0 := by
              intro c hc
              have e := hR.q c a (by omega)
              have ex : xl 0 c a = (34, a, xsL.getD c 0) := by
                unfold xl
                rw [if_neg (by omega), if_neg (by omega), if_neg (by omega), if_neg (by omega), if_neg (by omega), if_neg (by omega), if_pos (by omega)]
              rw [ex] at e
              rw [← e]
              exact (cl 34 a _ (by omega)).1
            have y0 := z0 0 (by omega)
            have y5 := z0 5 (by omega)
            have y6 := z0 6 (by omega)
            have hz := fun (τ : Sg) => zap_of (σ := τ) (P := 34) (j := a) (cols := [0, 1, 2, 3, 4, 5, 6, 23]) (by decide) (by decide) (by decide) hs
            simp only [List.mem_cons, List.not_mem_nil, or_false] at hz
            by_cases hia : i = a
            · subst hia
              by_cases hc : c = 0 ∨ c = 1 ∨ c = 2 ∨ c = 3 ∨ c = 4 ∨ c = 5 ∨ c = 6 ∨ c = 23
              · rcases hc with rfl | rfl | rfl | rfl | rfl | rfl | rfl | rfl <;> simp [up2_eq, hz, y0, y5, y6]
              · simp only [up2_eq, hz, hc, false_and, if_false]
            · simp only [up2_eq, hz, hia, and_false, if_false]
          refine z_aload0 dX1_ask_85 (z_getP fl_X1_35 dX1_ask_86 rfl rfl (X5.f1 4 (by decide)) (z_aload0 dX1_ask_89 (z_getIv fl_X1_122 dX1_ask_90 rfl rfl (g342) (z_aload7 dX1_ask_93 (z_aast dX1_ask_95 rfl (by decide) rfl rfl rfl ⟨ean, ha, Nat.le_of_ble_eq_true rfl⟩ (z_aload0 dX1_ask_96 (z_getP fl_X1_42 dX1_ask_97 rfl rfl (X5.f1 5 (by decide)) (z_getP fl_X1_232 dX1_ask_100 rfl rfl (X5.f4 _ (by decide)) (z_aload0 dX1_ask_103 (z_getIv fl_X1_122 dX1_ask_104 rfl rfl (g342) (z_aload8 dX1_ask_107 (z_aast dX1_ask_109 rfl (by decide) rfl rfl rfl ⟨ean, ha, Nat.le_of_ble_eq_true rfl⟩ (z_aload0 dX1_ask_110 (z_dupa dX1_ask_111 (z_getIv fl_X1_122 dX1_ask_112 rfl rfl (g342) (z_iconst (v := 1) dX1_ask_115 (by decide) (z_iadd dX1_ask_116 (z_putI fl_X1_122 dX1_ask_117 rfl rfl ⟨rfl, rfl⟩ (z_aload0 dX1_ask_120 (z_dupa dX1_ask_121 (z_getIv fl_X1_277 dX1_ask_122 rfl rfl (g3412) (z_aload7 dX1_ask_125 (z_getP fl_X1_222 dX1_ask_127 rfl rfl gru (z_getIv fl_X1_255 dX1_ask_130 rfl rfl (gfee) (z_iadd dX1_ask_133 (z_putI fl_X1_277 dX1_ask_134 rfl rfl ⟨rfl, rfl⟩ (z_aload7 dX1_ask_137 (z_getIv fl_X1_280 dX1_ask_139 rfl rfl (gnum) (z_ireturn dX1_ask_142 rfl (Nat.le_of_ble_eq_true rfl) (Nat.le_of_ble_eq_true rfl) ?_)))))))))))))))))))))))))))))
          have kp : KP μ (sI (sI (sP (sP μ5 15 0 a (some (33, a))) 16 0 a (some (34, a))) 1 0 15 (σ 34 2 + 1)) 1 0 25 (σ 34 12 + r.2.1)) := by
            have k2 : KP (nw μ 33 0) μ2 := KP.fx F2 (fun p i k hp => by omega) (fun p hp => by omega)
            have k5 : KP μ2 μ5 := by
              rw [← hm5]
              exact ((((((((((((((KP.rf (μ := μ2)).tr (KP.sI (Or.inl (by omega)))).tr (KP.sI (Or.inl (by omega)))).tr (KP.sI (Or.inl (by omega)))).tr (KP.sI (Or.inl (by omega)))).tr (KP.sI (Or.inl (by omega)))).tr (KP.sI (Or.inl (by omega)))).tr (KP.sP (Or.inl (by omega)))).tr (KP.nw (p := 34) (n := 0) (fun _ => rfl))).tr (KP.sI (Or.inl (by omega)))).tr (KP.sI (Or.inl (by omega)))).tr (KP.sI (Or.inl (by omega)))).tr (KP.sI (Or.inl (by omega)))).tr (KP.sI (Or.inl (by omega))))
            exact (((((kp1.tr k2).tr k5).tr (KP.sP (Or.inl (by omega)))).tr (KP.sP (Or.inl (by omega)))).tr (KP.sI (Or.inl (by omega)))).tr (KP.sI (Or.inl (by omega)))
          have Pf : ∀ p' i k, gP (sI (sI (sP (sP μ5 15 0 a (some (33, a))) 16 0 a (some (34, a))) 1 0 15 (σ 34 2 + 1)) 1 0 25 (σ 34 12 + r.2.1)) p' i k = if p' = 16 ∧ i = 0 ∧ k = a then some (34, a) else if p' = 15 ∧ i = 0 ∧ k = a then some (33, a) else if p' = 34 ∧ i = a then none else if p' = 33 ∧ i = a ∧ k = 6 then some (32, a) else gP μ2 p' i k := by
            intro p' i k
            rw [gP_sI, gP_sI, gP_sP, gP_sP, P5]
          have Cf : ∀ p', gC (sI (sI (sP (sP μ5 15 0 a (some (33, a))) 16 0 a (some (34, a))) 1 0 15 (σ 34 2 + 1)) 1 0 25 (σ 34 12 + r.2.1)) p' = if p' = 34 then a + 1 else if p' = 32 then a + 1 else if p' = 33 then a + 1 else gC μ p' := by
            intro p'
            show gC μ5 p' = _
            rw [C5, C2]
          have P2 : ∀ p' i k, p' ≠ 32 → gP μ2 p' i k = gP μ p' i k := fun p' i k hp => (F2.P i k hp).trans (m1 p' i k).2
          refine h _ _ ⟨?_, ?_, ?_, ?_⟩ ?_ XR.ok
          · show XP (tn (σ 34 1)) (tn (σ 34 2 + 1)) (tn (σ 34 3)) (tn (σ 7 4)) (tn (σ 34 0)) _
            rw [show tn (σ 34 2 + 1) = a + 1 by rw [ean, nI_1, tn_nI (by omega)]]
            have hT := hX.2.2.2.2.2.2.2.2.2.2
            refine hX.ak (fun p i k _ h1 h2 h3 h4 h5 => ?_) (fun p _ h1 h2 h3 h4 h5 => ?_) ⟨fun k hk => ⟨?_, ?_, ?_⟩, ?_, ?_, ?_⟩ ⟨?_, fun k hk => ?_, fun k hk => ?_⟩
            · rw [Pf, if_neg (by omega), if_neg (by omega), if_neg (by omega), if_neg (by omega), P2 _ _ _ (by omega)]
            · rw [Cf, if_neg (by omega), if_neg (by omega), if_neg (by omega)]
            · rw [Pf]
              by_cases q : k = a
              · rw [if_neg (by omega), if_pos ⟨rfl, rfl, q⟩, q]
              · rw [if_neg (by omega), if_neg (by omega), if_neg (by omega), if_neg (by omega), P2 _ _ _ (by omega)]
                exact hX.as (by omega)
            · rw [Pf]
              by_cases q : k = a
              · rw [if_neg (by omega), if_neg (by omega), if_neg (by omega), if_pos ⟨rfl, q, rfl⟩, q]
              · rw [if_neg (by omega), if_neg (by omega), if_neg (by omega), if_neg (by omega), P2 _ _ _ (by omega)]
                exact hX.ru (by omega)
            · rw [Pf]
              by_cases q : k = a
              · rw [if_pos ⟨rfl, rfl, q⟩, q]
              · rw [if_neg (by omega), if_neg (by omega), if_neg (by omega), if_neg (by omega), P2 _ _ _ (by omega)]
                exact hX.mo (by omega)
            · rw [Cf, if_neg (by decide), if_neg (by decide), if_pos rfl]
            · rw [Cf, if_pos rfl]
            · rw [Cf, if_neg (by decide), if_pos rfl]
            · rw [Cf, if_neg (by decide), if_neg (by decide), if_neg (by decide)]
              have := hT.1
              omega
            · rw [Cf, if_neg (by decide), if_neg (by decide), if_neg (by decide)] at hk
              rw [Pf, if_neg (by omega), if_neg (by omega), if_neg (by omega), if_neg (by omega), P2 _ _ _ (by omega)]
              exact hT.2.1 k hk
            · rw [Cf, if_neg (by decide), if_neg (by decide), if_neg (by decide)] at hk
              rw [Pf, if_neg (by omega), if_neg (by omega), if_neg (by omega), if_neg (by omega), P2 _ _ _ (by omega)]
              exact hT.2.2 k hk
          · have R6 := (R5.set (by decide) 34 2 (σ 34 2 + 1) (show (2 : Nat) < 16 by decide)).set (by decide) 34 12 (σ 34 12 + r.2.1) (show (12 : Nat) < 16 by decide)
            refine RepX.cgs (show RepX 0 _ (sI (sI (sP (sP μ5 15 0 a (some (33, a))) 16 0 a (some (34, a))) 1 0 15 (σ 34 2 + 1)) 1 0 25 (σ 34 12 + r.2.1)) from R6) fun c i hs => ?_
            have y0 : σ 0 a = 0 := by
              have e := hR.q 0 a (by decide)
              rw [← e]
              exact (cl 34 a _ (by omega)).1
            dsimp only
            unfold askF
            by_cases hia : i = a
            · subst hia
              have hc40 := sX_lt hs
              have : c = 0 ∨ c = 1 ∨ c = 2 ∨ c = 3 ∨ c = 4 ∨ c = 5 ∨ c = 6 ∨ c = 7 ∨ c = 8 ∨ c = 9 ∨ c = 10 ∨ c = 11 ∨ c = 12 ∨ c = 13 ∨ c = 14 ∨ c = 15 ∨ c = 16 ∨ c = 17 ∨ c = 18 ∨ c = 19 ∨ c = 20 ∨ c = 21 ∨ c = 22 ∨ c = 23 ∨ c = 24 ∨ c = 25 ∨ c = 26 ∨ c = 27 ∨ c = 28 ∨ c = 29 ∨ c = 30 ∨ c = 31 ∨ c = 32 ∨ c = 33 ∨ c = 34 ∨ c = 35 ∨ c = 36 ∨ c = 37 ∨ c = 38 ∨ c = 39 := by omega
              rcases this with rfl | rfl | rfl | rfl | rfl | rfl | rfl | rfl | rfl | rfl | rfl | rfl | rfl | rfl | rfl | rfl | rfl | rfl | rfl | rfl | rfl | rfl | rfl | rfl | rfl | rfl | rfl | rfl | rfl | rfl | rfl | rfl | rfl | rfl | rfl | rfl | rfl | rfl | rfl | rfl <;> simp [up2_eq, y0]
            · simp only [up2_eq, hia, and_false, if_false]
          · exact hI.2.2.1.kp kp rfl (fun _ => rfl) (fun l _ => by rw [Pf, if_neg (by omega), if_neg (by omega), if_neg (by omega), if_neg (by omega), P2 _ _ _ (by omega)])
          · exact hI.2.2.2.kp kp rfl (fun _ => rfl) (fun _ => rfl) (fun l _ => by rw [Pf, if_neg (by omega), if_neg (by omega), if_neg (by omega), if_neg (by omega), P2 _ _ _ (by omega)])
          · intro p' i k hp
            refine ⟨?_, by rw [Pf, if_neg (by omega), if_neg (by omega), if_neg (by omega), if_neg (by omega), P2 _ _ _ (by omega)]⟩
            rw [gI_sI, if_neg (by omega), gI_sI, if_neg (by omega), gI_sP, gI_sP, I5 p' i k (by omega) (by omega), F2.I (by omega), (m1 p' i k).1]
      · rw [if_pos (fun q => h3 q.2)] at h
        refine z_aload0 dX1_ask_0 (z_iload1 dX1_ask_1 (z_invV1 (md_X1_personAt _) cv_X1_201 rfl dX1_ask_2 rfl (Nat.le_of_ble_eq_true rfl) (Rm.ofB rfl) (X_personT hX hR h1 e hj np (z_astore6 dX1_ask_5 (z_aload0 dX1_ask_7 (z_iload2 dX1_ask_8 (z_iload3 dX1_ask_9 (z_invV2 (md_X1_isAsked _) cv_X1_245 rfl dX1_ask_10 rfl (Nat.le_of_ble_eq_true rfl) (Rm.ofB rfl) (X_askedT hX hR h2 (z_iload4 dX1_ask_13 (z_invS1 (md_X1_isItems _) cs_X1_267 dX1_ask_15 rfl (Nat.le_of_ble_eq_true rfl) (Rm.ofB rfl) (X_itemsF h3 ?_))))))))))))
        exact fun μ' i q => ⟨rfl, h _ _ (hI.exc q) (Fx.exc q) XR.e2⟩
    · rw [if_pos (fun q => h2 q.1)] at h
      refine z_aload0 dX1_ask_0 (z_iload1 dX1_ask_1 (z_invV1 (md_X1_personAt _) cv_X1_201 rfl dX1_ask_2 rfl (Nat.le_of_ble_eq_true rfl) (Rm.ofB rfl) (X_personT hX hR h1 e hj np (z_astore6 dX1_ask_5 (z_aload0 dX1_ask_7 (z_iload2 dX1_ask_8 (z_iload3 dX1_ask_9 (z_invV2 (md_X1_isAsked _) cv_X1_245 rfl dX1_ask_10 rfl (Nat.le_of_ble_eq_true rfl) (Rm.ofB rfl) (X_askedF hX hR h2 ?_)))))))))
      exact fun μ' i q => ⟨rfl, h _ _ (hI.exc q) (Fx.exc q) XR.e2⟩
  · rw [if_pos h1] at h
    refine z_aload0 dX1_ask_0 (z_iload1 dX1_ask_1 (z_invV1 (md_X1_personAt _) cv_X1_201 rfl dX1_ask_2 rfl (Nat.le_of_ble_eq_true rfl) (Rm.ofB rfl) (X_personF hR h1 ?_)))
    exact fun μ' i q => ⟨rfl, h _ _ (hI.exc q) (Fx.exc q) XR.e1⟩
end O16
