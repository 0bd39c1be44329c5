/-! Model: checks, gets, prints, does -/
section M4
variable {μ μ' : Mem} {Q : Res → Mem → Prop} {σ : Sg}
def RepB (σ : Sg) (b : Nat) (μ : Mem) : Prop := ∀ c i, sM c i → (8 ≤ c ∧ c ≤ 11 → i < b) → gI μ (mp c) 0 (ms c i) = σ c i
theorem RepM.toB (h : RepM σ μ) : RepB σ (tn (σ 7 4)) μ := fun c i h1 h2 => h c i ⟨h1, h2⟩
theorem RepB.toM {b : Nat} (h : RepB σ b μ) (e : tn (σ 7 4) = b) : RepM σ μ := fun c i h1 => h c i h1.1 (fun q => by rw [← e]; exact h1.2 q)
theorem RepB.set {b : Nat} (hR : RepB σ b μ) (c i : Nat) (v : Int32) (hs : sM c i) : RepB (up2 σ c i v) b (sI μ (mp c) 0 (ms c i) v) := by
  intro c' i' hv hb
  rw [up2_eq, gI_sI]
  by_cases e : c' = c ∧ i' = i
  · rw [e.1, e.2]; simp
  · rw [if_neg e, if_neg, hR c' i' hv hb]
    rintro ⟨q1, -, q2⟩
    exact e (ml_inj hv hs q1 q2)
theorem RepB.ext4 {b : Nat} (hR : RepB σ b μ) (h8 : gI μ 118 0 b = σ 8 b) (h9 : gI μ 119 0 b = σ 9 b) (h10 : gI μ 120 0 b = σ 10 b) (h11 : gI μ 121 0 b = σ 11 b) : RepB σ (b + 1) μ := by
  intro c i hs hb
  by_cases e : 8 ≤ c ∧ c ≤ 11
  · have := hb e
    by_cases ei : i = b
    · subst ei
      have hc : c = 8 ∨ c = 9 ∨ c = 10 ∨ c = 11 := by omega
      rcases hc with rfl | rfl | rfl | rfl
      · exact h8
      · exact h9
      · exact h10
      · exact h11
    · exact hR c i hs (fun _ => by omega)
  · exact hR c i hs (fun q => absurd q e)
/-- the Model's places but the booklets' ends -/
def RepN (σ : Sg) (μ : Mem) : Prop := ∀ c i, vM σ c i → c ≠ 10 → gI μ (mp c) 0 (ms c i) = σ c i
theorem RepN.s7 (h : RepN σ μ) (i : Nat) (hi : i < 6) : gI μ 50 0 (tS.getD i 0) = σ 7 i := h 7 i ⟨hi, fun q => absurd q.1 (by decide)⟩ (by decide)
theorem RepN.s34 (h : RepN σ μ) (i : Nat) (hi : i < 18 ∧ i ≠ 10 ∧ i ≠ 11 ∧ i ≠ 13) : gI μ 50 0 (tT.getD i 0) = σ 34 i := h 34 i ⟨hi, fun q => absurd q.2 (by decide)⟩ (by decide)
theorem RepN.col (h : RepN σ μ) (c i : Nat) (hc : c < 40 ∧ c ≠ 7 ∧ c ≠ 34 ∧ ¬ (8 ≤ c ∧ c ≤ 11)) : gI μ (mp c) 0 (ms c i) = σ c i := h c i ⟨sM_col ⟨hc.1, hc.2.1, hc.2.2.1⟩, fun q => absurd q hc.2.2.2⟩ (fun q => hc.2.2.2 (by omega))
theorem difM {c j : Nat} {x : Int32} (h : sM c j) : Dif SM μ (sI μ (mp c) 0 (ms c j) x) := Dif.sI (SM.of h)
theorem M_nowv {a w : Nat} {x y v : Int32} (hM : MOK μ) (hx : x = nI a) (hy : y = nI w) (ha : 7 * a + w < 840) (hv : gI μ 116 0 (7 * a + w) = v) (h : Q (rI v) μ) : Ct RX5 cX5_now (3, some .int, [], false, rmm 1 0 0) [vr 50 0, vi x, vi y] μ Q := by subst hv; exact M_now hM hx hy ha h
theorem M_gets {a : Nat} {x : Int32} (hM : MOK μ) (hR : RepM σ μ) (hx : x = nI a) (ha : a < 120) (h : ∀ μ', RepM (getsF true σ a) μ' → Dif SM μ μ' → Q rV μ') : Ct RX5 cX5_gets (2, none, [], false, rmm 2 0 0) [vr 50 0, vi x] μ Q := by
  refine Ct.of (ls := [some (vr 50 0), some (vi x)]) rfl fun Γ C ad => ?_
  have r2 := (hR.set 0 a 7 (sM_col (by decide)) (by omega)).set 3 a (σ 7 0) (sM_col (by decide)) (by omega)
  have d2 : Dif SM μ (sI (sI μ 116 0 (7 * a + 0) 7) 116 0 (7 * a + 3) (σ 7 0)) := (difM (c := 0) (j := a) (sM_col (by decide))).tr (difM (c := 3) (j := a) (sM_col (by decide)))
  have fin1 : (true = false ∨ σ 22 a < 0 ∨ σ 7 0 - σ 15 a ≤ σ 22 a) → Z RX5 cX5_gets (2, none, [], false, rmm 2 0 0) (Γ, C, μ, ad, Q) (0) (0) (sI (sI μ 116 0 (7 * a + 0) 7) 116 0 (7 * a + 3) (σ 7 0)) 47 [some (vr 50 0), some (vi x)] [] := by
    intro q
    rw [getsF, if_pos q] at h
    refine z_return dX5_gets_47 rfl (by decide) (by decide) ?_
    exact h _ r2 d2
  refine z_aload0 dX5_gets_0 (z_iload1 dX5_gets_1 (z_iconst (v := 0) dX5_gets_2 (by decide) (z_bipush (v := 7) dX5_gets_3 (by decide) (z_invV3 (md_X5_sets _) cv_X5_425 rfl dX5_gets_5 rfl (by decide) (Rm.ofB rfl) (M_sets (w := 0) hM hx rfl (by omega) (z_aload0 dX5_gets_8 (z_iload1 dX5_gets_9 (z_iconst (v := 3) dX5_gets_10 (by decide) (z_aload0 dX5_gets_11 (z_getIv fl_X5_314 dX5_gets_12 rfl rfl (hR.s7 0 (by decide)) (z_invV3 (md_X5_sets _) cv_X5_425 rfl dX5_gets_15 rfl (by decide) (Rm.ofB rfl) (M_sets (w := 3) hM hx rfl (by omega) (z_aload0 dX5_gets_18 (z_getP (v := some (115, 0)) fl_X5_145 dX5_gets_19 rfl rfl (hM 64 rfl) (z_iload1 dX5_gets_22 (z_ialdv dX5_gets_23 rfl ⟨hx, ha, Nat.le_of_ble_eq_true rfl⟩ (hR.col 22 _ (by decide)) (z_if_lt 47 dX5_gets_24 (by decide) (fun c_24 => ?_) (fun c_24 => ?_))))))))))))))))))
  · exact fin1 (Or.inr (Or.inl c_24))
  · refine z_aload0 dX5_gets_27 (z_getIv fl_X5_314 dX5_gets_28 rfl rfl (hR.s7 0 (by decide)) (z_aload0 dX5_gets_31 (z_getP (v := some (107, 0)) fl_X5_121 dX5_gets_32 rfl rfl (hM 56 rfl) (z_iload1 dX5_gets_35 (z_ialdv dX5_gets_36 rfl ⟨hx, ha, Nat.le_of_ble_eq_true rfl⟩ (hR.col 15 _ (by decide)) (z_isub dX5_gets_37 (z_aload0 dX5_gets_38 (z_getP (v := some (115, 0)) fl_X5_145 dX5_gets_39 rfl rfl (hM 64 rfl) (z_iload1 dX5_gets_42 (z_ialdv dX5_gets_43 rfl ⟨hx, ha, Nat.le_of_ble_eq_true rfl⟩ (hR.col 22 _ (by decide)) (z_icmp_gt 48 dX5_gets_44 (by decide) (fun c_44 => ?_) (fun c_44 => ?_))))))))))))
    · rw [getsF, if_neg (fun q => by
        rcases q with q | q | q
        · cases q
        · exact c_24 q
        · exact absurd q (Int32.not_le.mpr c_44))] at h
      refine z_aload0 dX5_gets_48 (z_iload1 dX5_gets_49 (z_bipush (v := 6) dX5_gets_50 (by decide) (z_iconst (v := 1) dX5_gets_52 (by decide) (z_invV3 (md_X5_sets _) cv_X5_425 rfl dX5_gets_53 rfl (by decide) (Rm.ofB rfl) (M_sets (w := 6) hM hx rfl (by omega) (z_aload0 dX5_gets_56 (z_dupa dX5_gets_57 (z_getIv fl_X5_456 dX5_gets_58 rfl rfl (hR.s7 5 (by decide)) (z_aload0 dX5_gets_61 (z_getP (v := some (111, 0)) fl_X5_133 dX5_gets_62 rfl rfl (hM 60 rfl) (z_iload1 dX5_gets_65 (z_ialdv dX5_gets_66 rfl ⟨hx, ha, Nat.le_of_ble_eq_true rfl⟩ (hR.col 18 _ (by decide)) (z_iadd dX5_gets_67 (z_putI fl_X5_456 dX5_gets_68 rfl rfl ⟨rfl, rfl⟩ (z_return dX5_gets_71 rfl (by decide) (by decide) ?_)))))))))))))))
      exact h _ ((r2.set 6 a 1 (sM_col (by decide)) (by omega)).set 7 5 _ (show (5 : Nat) < 6 by decide) (by decide)) ((d2.tr (difM (c := 6) (j := a) (sM_col (by decide)))).tr (difM (c := 7) (j := 5) (show (5 : Nat) < 6 by decide)))
    · exact fin1 (Or.inr (Or.inr (Int32.not_lt.mp c_44)))
theorem M_checks {a p : Nat} {x : Int32} (hM : MOK μ) (hR : RepM σ μ) (hx : x = nI a) (ha : a < 120) (hp : σ 12 a = nI p) {n : Nat} (hn : σ 34 1 = nI n) (hn2 : n ≤ 80) (hpn : p < n) (h : Q rV (sI μ 116 0 (7 * a + 0) (chkF σ a))) : Ct RX5 cX5_checks (6, none, [], false, rmm 2 0 0) [vr 50 0, vi x] μ Q := by
  refine Ct.of (ls := [some (vr 50 0), some (vi x), none, none, none, none]) rfl fun Γ C ad => ?_
  subst hx
  have ep : tn (σ 12 a) = p := by rw [hp, tn_nI (by omega)]
  have en : tn (σ 34 1) = n := by rw [hn, tn_nI (by omega)]
  refine z_aload0 dX5_checks_0 (z_getP (v := some (104, 0)) fl_X5_112 dX5_checks_1 rfl rfl (hM 53 rfl) (z_iload1 dX5_checks_4 (z_ialdv dX5_checks_5 rfl ⟨rfl, ha, Nat.le_of_ble_eq_true rfl⟩ (hR.col 12 _ (by decide)) (z_istore2 dX5_checks_6 (z_iconst (v := 0) dX5_checks_7 (by decide) (z_istore3 dX5_checks_8 (z_iconst (v := 0) dX5_checks_9 (by decide) (z_istore4 dX5_checks_10 (z_iconst (v := 0) dX5_checks_12 (by decide) (z_istore5 dX5_checks_13 ?_))))))))))
  rw [hp]
  let gs : Nat → Bool := fun q => nearB σ p q && decide (σ 27 (80 * p + q) = 2)
  let go : Nat → Bool := fun q => nearB σ p q && decide (σ 27 (80 * p + q) = 0)
  refine loopN (P := fun k => Z RX5 cX5_checks (6, none, [], false, rmm 2 0 0) (Γ, C, μ, ad, Q) (0) (0) (μ) 15 [some (vr 50 0), some (vi (nI a)), some (vi (nI p)), some (vi (bI (anyB gs k))), some (vi (bI (anyB go k))), some (vi (nI k))] []) n ?_ ?_ 0 (Nat.zero_le _)
  · have last : ∀ v : Int32, v = chkF σ a → Z RX5 cX5_checks (6, none, [], false, rmm 2 0 0) (Γ, C, μ, ad, Q) (0) (0) (μ) 154 [some (vr 50 0), some (vi (nI a)), some (vi (nI p)), some (vi (bI (anyB gs n))), some (vi (bI (anyB go n))), some (vi (nI n))] [vi v, vi 0, vi (nI a), vr 50 0] := by
      intro v hv
      subst hv
      refine z_invV3 (md_X5_sets _) cv_X5_425 rfl dX5_checks_154 rfl (by decide) (Rm.ofB rfl) (M_sets (w := 0) hM rfl rfl (by omega) (z_return dX5_checks_157 rfl (by decide) (by decide) ?_))
      exact h
    have e : chkF σ a = if anyB gs n then 9 else if anyB go n then 3 else if σ 21 a ≠ 0 ∨ σ 34 6 < σ 20 a then 4 else 5 := by
      rw [chkF, ep, en]
    refine z_iload5 dX5_checks_15 (z_aload0 dX5_checks_17 (z_getIv fl_X5_372 dX5_checks_18 rfl rfl (hR.s34 1 (by decide)) (z_icmp_ge 106 dX5_checks_21 (by decide) (fun _ => z_aload0 dX5_checks_106 (z_iload1 dX5_checks_107 (z_iconst (v := 0) dX5_checks_108 (by decide) (z_iload3 dX5_checks_109 (z_if_eq 118 dX5_checks_110 (by decide) (fun c_110 => ?_) (fun c_110 => ?_)))))) (fun c => absurd (lpt hn) c))))
    · rw [if_neg (by rw [bI_0.mp c_110]; decide)] at e
      refine z_iload4 dX5_checks_118 (z_if_eq 127 dX5_checks_120 (by decide) (fun c_120 => ?_) (fun c_120 => ?_))
      · rw [if_neg (by rw [bI_0.mp c_120]; decide)] at e
        refine z_aload0 dX5_checks_127 (z_getP (v := some (114, 0)) fl_X5_142 dX5_checks_128 rfl rfl (hM 63 rfl) (z_iload1 dX5_checks_131 (z_zaldv dX5_checks_132 rfl ⟨rfl, ha, Nat.le_of_ble_eq_true rfl⟩ (hR.col 21 _ (by decide)) (z_if_ne 149 dX5_checks_133 (by decide) (fun c_133 => ?_) (fun c_133 => ?_)))))
        · rw [if_pos (Or.inl c_133)] at e
          refine z_iconst (v := 4) dX5_checks_149 (by decide) (z_goto 154 dX5_checks_150 (by decide) ?_)
          exact last 4 e.symm
        · refine z_aload0 dX5_checks_136 (z_getP (v := some (113, 0)) fl_X5_139 dX5_checks_137 rfl rfl (hM 62 rfl) (z_iload1 dX5_checks_140 (z_ialdv dX5_checks_141 rfl ⟨rfl, ha, Nat.le_of_ble_eq_true rfl⟩ (hR.col 20 _ (by decide)) (z_aload0 dX5_checks_142 (z_getIv fl_X5_82 dX5_checks_143 rfl rfl (hR.s34 6 (by decide)) (z_icmp_le 153 dX5_checks_146 (by decide) (fun c_146 => ?_) (fun c_146 => ?_)))))))
          · rw [if_neg (fun q => by
              rcases q with q | q
              · exact q c_133
              · exact absurd q (Int32.not_lt.mpr c_146))] at e
            refine z_iconst (v := 5) dX5_checks_153 (by decide) ?_
            exact last 5 e.symm
          · rw [if_pos (Or.inr (Int32.not_le.mp c_146))] at e
            refine z_iconst (v := 4) dX5_checks_149 (by decide) (z_goto 154 dX5_checks_150 (by decide) ?_)
            exact last 4 e.symm
      · rw [if_pos (bI_n0 c_120)] at e
        refine z_iconst (v := 3) dX5_checks_123 (by decide) (z_goto 154 dX5_checks_124 (by decide) ?_)
        exact last 3 e.symm
    · rw [if_pos (bI_n0 c_110)] at e
      refine z_bipush (v := 9) dX5_checks_113 (by decide) (z_goto 154 dX5_checks_115 (by decide) ?_)
      exact last 9 e.symm
  · intro k hk ih
    rw [anyB, anyB] at ih
    have skip : nearB σ p k = false → Z RX5 cX5_checks (6, none, [], false, rmm 2 0 0) (Γ, C, μ, ad, Q) (0) (0) (μ) 100 [some (vr 50 0), some (vi (nI a)), some (vi (nI p)), some (vi (bI (anyB gs k))), some (vi (bI (anyB go k))), some (vi (nI k))] [] := by
      intro q
      rw [show gs k = false by simp [gs, q], show go k = false by simp [go, q], Bool.or_false, Bool.or_false] at ih
      refine z_iinc5 dX5_checks_100 (inc1 k) (z_goto 15 dX5_checks_103 (by decide) ?_)
      exact ih
    refine z_iload5 dX5_checks_15 (z_aload0 dX5_checks_17 (z_getIv fl_X5_372 dX5_checks_18 rfl rfl (hR.s34 1 (by decide)) (z_icmp_ge 106 dX5_checks_21 (by decide) (fun c => absurd c (lpf hn hk (by omega))) (fun _ => z_iload5 dX5_checks_24 (z_iload2 dX5_checks_26 (z_icmp_eq 100 dX5_checks_27 (by decide) (fun c_27 => ?_) (fun c_27 => ?_)))))))
    · refine skip ?_
      have : k = p := (nI_eq (by omega) (by omega)).mp c_27
      simp [nearB, this]
    · have hkp : k ≠ p := fun q => c_27 (by rw [q])
      refine z_aload0 dX5_checks_30 (z_iload2 dX5_checks_31 (z_iload5 dX5_checks_32 (z_invV2 (md_X5_farOf _) cv_X5_391 rfl dX5_checks_34 rfl (by decide) (Rm.ofB rfl) (M_farOf hM hR rfl rfl (by omega) (by omega) (z_aload0 dX5_checks_37 (z_getIv fl_X5_79 dX5_checks_38 rfl rfl (hR.s34 5 (by decide)) (z_icmp_le 47 dX5_checks_41 (by decide) (fun c_41 => ?_) (fun c_41 => ?_))))))))
      · have near : nearB σ p k = true := by simp [nearB, hkp]; exact c_41
        have egs : gs k = decide (σ 27 (80 * p + k) = 2) := by simp [gs, near]
        have ego : go k = decide (σ 27 (80 * p + k) = 0) := by simp [go, near]
        rw [egs, ego] at ih
        have j98 : ∀ b : Bool, b = (anyB go k || decide (σ 27 (80 * p + k) = 0)) → Z RX5 cX5_checks (6, none, [], false, rmm 2 0 0) (Γ, C, μ, ad, Q) (0) (0) (μ) 98 [some (vr 50 0), some (vi (nI a)), some (vi (nI p)), some (vi (bI (anyB gs k || decide (σ 27 (80 * p + k) = 2)))), some (vi (bI (anyB go k))), some (vi (nI k))] [vi (bI b)] := by
          intro b hb
          subst hb
          refine z_istore4 dX5_checks_98 (z_iinc5 dX5_checks_100 (inc1 k) (z_goto 15 dX5_checks_103 (by decide) ?_))
          exact ih
        have j72 : ∀ b : Bool, b = (anyB gs k || decide (σ 27 (80 * p + k) = 2)) → Z RX5 cX5_checks (6, none, [], false, rmm 2 0 0) (Γ, C, μ, ad, Q) (0) (0) (μ) 72 [some (vr 50 0), some (vi (nI a)), some (vi (nI p)), some (vi (bI (anyB gs k))), some (vi (bI (anyB go k))), some (vi (nI k))] [vi (bI b)] := by
          intro b hb
          subst hb
          refine z_istore3 dX5_checks_72 (z_iload4 dX5_checks_73 (z_if_ne 93 dX5_checks_75 (by decide) (fun c_75 => ?_) (fun c_75 => ?_)))
          · refine z_iconst (v := 1) dX5_checks_93 (by decide) (z_goto 98 dX5_checks_94 (by decide) ?_)
            exact j98 true (by rw [bI_n0 c_75]; rfl)
          · refine z_aload0 dX5_checks_78 (z_getP (v := some (86, 0)) fl_X5_70 dX5_checks_79 rfl rfl (hM 35 rfl) (z_bipush (v := 80) dX5_checks_82 (by decide) (z_iload2 dX5_checks_84 (z_imul dX5_checks_85 (z_iload5 dX5_checks_86 (z_iadd dX5_checks_88 (z_ialdv dX5_checks_89 rfl ⟨i80 p k, (show 80 * p + k < 6400 by omega), Nat.le_of_ble_eq_true rfl⟩ (hR.col 27 _ (by decide)) (z_if_ne 97 dX5_checks_90 (by decide) (fun c_90 => ?_) (fun c_90 => ?_)))))))))
            · refine z_iconst (v := 0) dX5_checks_97 (by decide) ?_
              exact j98 false (by rw [bI_0.mp c_75, decide_eq_false c_90]; rfl)
            · refine z_iconst (v := 1) dX5_checks_93 (by decide) (z_goto 98 dX5_checks_94 (by decide) ?_)
              exact j98 true (by rw [decide_eq_true c_90]; simp)
        refine z_iload3 dX5_checks_47 (z_if_ne 67 dX5_checks_48 (by decide) (fun c_48 => ?_) (fun c_48 => ?_))
        · refine z_iconst (v := 1) dX5_checks_67 (by decide) (z_goto 72 dX5_checks_68 (by decide) ?_)
          exact j72 true (by rw [bI_n0 c_48]; rfl)
        · refine z_aload0 dX5_checks_51 (z_getP (v := some (86, 0)) fl_X5_70 dX5_checks_52 rfl rfl (hM 35 rfl) (z_bipush (v := 80) dX5_checks_55 (by decide) (z_iload2 dX5_checks_57 (z_imul dX5_checks_58 (z_iload5 dX5_checks_59 (z_iadd dX5_checks_61 (z_ialdv dX5_checks_62 rfl ⟨i80 p k, (show 80 * p + k < 6400 by omega), Nat.le_of_ble_eq_true rfl⟩ (hR.col 27 _ (by decide)) (z_iconst (v := 2) dX5_checks_63 (by decide) (z_icmp_ne 71 dX5_checks_64 (by decide) (fun c_64 => ?_) (fun c_64 => ?_))))))))))
          · refine z_iconst (v := 0) dX5_checks_71 (by decide) ?_
            exact j72 false (by rw [bI_0.mp c_48, decide_eq_false c_64]; rfl)
          · refine z_iconst (v := 1) dX5_checks_67 (by decide) (z_goto 72 dX5_checks_68 (by decide) ?_)
            exact j72 true (by rw [decide_eq_true c_64]; simp)
      · refine z_goto 100 dX5_checks_44 (by decide) ?_
        exact skip (by simp [nearB]; intro _; exact Int32.not_le.mp c_41)
theorem endS_ne {a : Nat} : ∀ (k c i : Nat), c ≠ 10 → endS σ a k c i = σ c i
  | 0, _, _, _ => rfl
  | k + 1, c, i, h => by
    rw [endS]
    split
    · rw [up2_eq, if_neg (fun q => h q.1)]; exact endS_ne k c i h
    · exact endS_ne k c i h
theorem endS_RepN {a k : Nat} (hR : RepM (endS σ a k) μ) : RepN σ μ := fun c i hv hc => by
  have := hR c i ⟨hv.1, fun q => by rw [endS_ne k 7 4 (by decide)]; exact hv.2 q⟩
  rw [endS_ne k c i hc] at this
  exact this
theorem M_prints {a p : Nat} {x : Int32} (hM : MOK μ) (hR : RepM σ μ) (hx : x = nI a) (ha : a < 120) (hp : σ 12 a = nI p) (hp2 : p < 80) {n : Nat} (hn : σ 7 4 = nI n) (hn2 : n < 150) (h : ∀ μ', RepM (prinF true σ a) μ' → Dif SM μ μ' → Q rV μ') : Ct RX5 cX5_prints (4, none, [], false, rmm 3 0 0) [vr 50 0, vi x] μ Q := by
  refine Ct.of (ls := [some (vr 50 0), some (vi x), none, none]) rfl fun Γ C ad => ?_
  subst hx
  have en : tn (σ 7 4) = n := by rw [hn, tn_nI (by omega)]
  have ep : tn (σ 12 a) = p := by rw [hp, tn_nI (by omega)]
  have hb : ∀ k, k < n → k < tn (σ 7 4) := fun k hk => by rw [en]; exact hk
  have tail : ∀ (σ0 : Sg) (μ0 : Mem) (o : Int32), σ0 = (if σ 13 a = 3 then σ else endS σ a (tn (σ 7 4))) → (∀ c i, c ≠ 10 → σ0 c i = σ c i) → RepM σ0 μ0 → RepN σ μ0 → Dif SM μ μ0 → Z RX5 cX5_prints (4, none, [], false, rmm 3 0 0) (Γ, C, μ, ad, Q) (0) (0) (μ0) 79 [some (vr 50 0), some (vi (nI a)), some (vi (nI p)), some (vi o)] [] := by
    intro σ0 μ0 o e0 hne hR0 hN hD
    have hM0 : MOK μ0 := hM.of hD.1
    have e74 : σ0 7 4 = nI n := (hne 7 4 (by decide)).trans hn
    have r4 := (((hR0.toB.set 8 n (nI p) (sM_col (by decide))).set 9 n (σ 7 0) (sM_col (by decide))).set 10 n (σ 7 0 + 365 * σ 19 a) (sM_col (by decide))).set 11 n (nI a) (sM_col (by decide))
    rw [e74, tn_nI (by omega)] at r4
    have r5 := r4.ext4 (by simp [gI_sI, up2_eq, mp, mpL, ms]) (by simp [gI_sI, up2_eq, mp, mpL, ms]) (by simp [gI_sI, up2_eq, mp, mpL, ms]) (by simp [gI_sI, up2_eq, mp, mpL, ms])
    have d4 := (((hD.tr (difM (c := 8) (j := n) (x := nI p) (sM_col (by decide)))).tr (difM (c := 9) (j := n) (x := σ 7 0) (sM_col (by decide)))).tr (difM (c := 10) (j := n) (x := σ 7 0 + 365 * σ 19 a) (sM_col (by decide)))).tr (difM (c := 11) (j := n) (x := nI a) (sM_col (by decide)))
    have r6 := ((r5.set 1 a (σ 7 4) (sM_col (by decide))).set 7 4 (σ 7 4 + 1) (show (4 : Nat) < 6 by decide)).set 7 1 (σ 7 1 - 1) (show (1 : Nat) < 6 by decide)
    have d6 := ((d4.tr (difM (c := 1) (j := a) (x := σ 7 4) (sM_col (by decide)))).tr (difM (c := 7) (j := 4) (x := σ 7 4 + 1) (show (4 : Nat) < 6 by decide))).tr (difM (c := 7) (j := 1) (x := σ 7 1 - 1) (show (1 : Nat) < 6 by decide))
    have r7 : ∀ v, RepM (up2 (up2 (up2 (up2 (up2 (up2 (up2 (up2 σ0 8 n (nI p)) 9 n (σ 7 0)) 10 n (σ 7 0 + 365 * σ 19 a)) 11 n (nI a)) 1 a (σ 7 4)) 7 4 (σ 7 4 + 1)) 7 1 (σ 7 1 - 1)) 4 a v) _ := fun v => (r6.set 4 a v (sM_col (by decide))).toM (by
      rw [hn, nI_1]
      simp only [up2_eq]
      simp
      exact tn_nI (by omega))
    have e1 : prinF true σ a = (if postF σ a = 0 then getsF true (up2 (up2 (up2 (up2 (up2 (up2 (up2 (up2 σ0 8 n (nI p)) 9 n (σ 7 0)) 10 n (σ 7 0 + 365 * σ 19 a)) 11 n (nI a)) 1 a (σ 7 4)) 7 4 (σ 7 4 + 1)) 7 1 (σ 7 1 - 1)) 4 a (σ 7 0 + postF σ a)) a else up2 (up2 (up2 (up2 (up2 (up2 (up2 (up2 (up2 σ0 8 n (nI p)) 9 n (σ 7 0)) 10 n (σ 7 0 + 365 * σ 19 a)) 11 n (nI a)) 1 a (σ 7 4)) 7 4 (σ 7 4 + 1)) 7 1 (σ 7 1 - 1)) 4 a (σ 7 0 + postF σ a)) 0 a 6) := by
      unfold prinF bookF
      rw [← e0, en, hp]
      rfl
    rw [e1] at h
    have j186 : ∀ v, v = postF σ a → Z RX5 cX5_prints (4, none, [], false, rmm 3 0 0) (Γ, C, μ, ad, Q) (0) (0) (sI (sI (sI (sI (sI (sI (sI μ0 118 0 n (nI p)) 119 0 n (σ 7 0)) 120 0 n (σ 7 0 + 365 * σ 19 a)) 121 0 n (nI a)) 116 0 (7 * a + 1) (σ 7 4)) 50 0 71 (σ 7 4 + 1)) 50 0 43 (σ 7 1 - 1)) 186 [some (vr 50 0), some (vi (nI a)), some (vi (nI p)), some (vi o)] [vi v] := by
      intro v hv
      subst hv
      have d7 := d6.tr (difM (c := 4) (j := a) (x := σ 7 0 + postF σ a) (sM_col (by decide)))
      refine z_istore3 dX5_prints_186 (z_aload0 dX5_prints_187 (z_iload1 dX5_prints_188 (z_iconst (v := 4) dX5_prints_189 (by decide) (z_aload0 dX5_prints_190 (z_getIv fl_X5_314 dX5_prints_191 rfl rfl (hN.s7 0 (by decide)) (z_iload3 dX5_prints_194 (z_iadd dX5_prints_195 (z_invV3 (md_X5_sets _) cv_X5_425 rfl dX5_prints_196 rfl (by decide) (Rm.ofB rfl) (M_sets (w := 4) hM0 rfl rfl (by omega) (z_iload3 dX5_prints_199 (z_if_ne 211 dX5_prints_200 (by decide) (fun c_200 => ?_) (fun c_200 => ?_))))))))))))
      · rw [if_neg c_200] at h
        refine z_aload0 dX5_prints_211 (z_iload1 dX5_prints_212 (z_iconst (v := 0) dX5_prints_213 (by decide) (z_bipush (v := 6) dX5_prints_214 (by decide) (z_invV3 (md_X5_sets _) cv_X5_425 rfl dX5_prints_216 rfl (by decide) (Rm.ofB rfl) (M_sets (w := 0) hM0 rfl rfl (by omega) (z_return dX5_prints_219 rfl (by decide) (by decide) ?_))))))
        exact h _ ((r7 (σ 7 0 + postF σ a)).set 0 a 6 (sM_col (by decide)) (by omega)) (d7.tr (difM (c := 0) (j := a) (sM_col (by decide))))
      · rw [if_pos c_200] at h
        refine z_aload0 dX5_prints_203 (z_iload1 dX5_prints_204 (z_invV1 (md_X5_gets _) cv_X5_459 rfl dX5_prints_205 rfl (by decide) (Rm.ofB rfl) (M_gets hM0 (r7 (σ 7 0 + postF σ a)) rfl ha (fun μ2 hr2 hd2 => ?_))))
        refine z_goto 219 dX5_prints_208 (by decide) (z_return dX5_prints_219 rfl (by decide) (by decide) ?_)
        exact h μ2 hr2 (d7.tr hd2)
    have ix : Ix (σ 7 4) n 150 := ⟨hn, hn2, by decide⟩
    refine z_aload0 dX5_prints_79 (z_getP (v := some (118, 0)) fl_X5_151 dX5_prints_80 rfl rfl (hM0 67 rfl) (z_aload0 dX5_prints_83 (z_getIv fl_X5_415 dX5_prints_84 rfl rfl (hN.s7 4 (by decide)) (z_iload2 dX5_prints_87 (z_iast dX5_prints_88 rfl ix (z_aload0 dX5_prints_89 (z_getP (v := some (119, 0)) fl_X5_154 dX5_prints_90 rfl rfl (hM0 68 rfl) (z_aload0 dX5_prints_93 (z_getIv fl_X5_415 dX5_prints_94 rfl rfl (hN.s7 4 (by decide)) (z_aload0 dX5_prints_97 (z_getIv fl_X5_314 dX5_prints_98 rfl rfl (hN.s7 0 (by decide)) (z_iast dX5_prints_101 rfl ix (z_aload0 dX5_prints_102 (z_getP (v := some (120, 0)) fl_X5_157 dX5_prints_103 rfl rfl (hM0 69 rfl) (z_aload0 dX5_prints_106 (z_getIv fl_X5_415 dX5_prints_107 rfl rfl (hN.s7 4 (by decide)) (z_aload0 dX5_prints_110 (z_getIv fl_X5_314 dX5_prints_111 rfl rfl (hN.s7 0 (by decide)) (z_sipush (v := 365) dX5_prints_114 (by decide) (z_aload0 dX5_prints_117 (z_getP (v := some (112, 0)) fl_X5_136 dX5_prints_118 rfl rfl (hM0 61 rfl) (z_iload1 dX5_prints_121 (z_ialdv dX5_prints_122 rfl ⟨rfl, ha, Nat.le_of_ble_eq_true rfl⟩ (hN.col 19 _ (by decide)) (z_imul dX5_prints_123 (z_iadd dX5_prints_124 (z_iast dX5_prints_125 rfl ix (z_aload0 dX5_prints_126 (z_getP (v := some (121, 0)) fl_X5_160 dX5_prints_127 rfl rfl (hM0 70 rfl) (z_aload0 dX5_prints_130 (z_getIv fl_X5_415 dX5_prints_131 rfl rfl (hN.s7 4 (by decide)) (z_iload1 dX5_prints_134 (z_iast dX5_prints_135 rfl ix (z_aload0 dX5_prints_136 (z_iload1 dX5_prints_137 (z_iconst (v := 1) dX5_prints_138 (by decide) (z_aload0 dX5_prints_139 (z_getIv fl_X5_415 dX5_prints_140 rfl rfl (hN.s7 4 (by decide)) (z_invV3 (md_X5_sets _) cv_X5_425 rfl dX5_prints_143 rfl (by decide) (Rm.ofB rfl) (M_sets (w := 1) hM0 rfl rfl (by omega) (z_aload0 dX5_prints_146 (z_dupa dX5_prints_147 (z_getIv fl_X5_415 dX5_prints_148 rfl rfl (hN.s7 4 (by decide)) (z_iconst (v := 1) dX5_prints_151 (by decide) (z_iadd dX5_prints_152 (z_putI fl_X5_415 dX5_prints_153 rfl rfl ⟨rfl, rfl⟩ (z_aload0 dX5_prints_156 (z_dupa dX5_prints_157 (z_getIv fl_X5_406 dX5_prints_158 rfl rfl (hN.s7 1 (by decide)) (z_iconst (v := 1) dX5_prints_161 (by decide) (z_isub dX5_prints_162 (z_putI fl_X5_406 dX5_prints_163 rfl rfl ⟨rfl, rfl⟩ (z_aload0 dX5_prints_166 (z_getP (v := some (81, 0)) fl_X5_58 dX5_prints_167 rfl rfl (hM0 30 rfl) (z_iload2 dX5_prints_170 (z_zaldv dX5_prints_171 rfl ⟨rfl, hp2, Nat.le_of_ble_eq_true rfl⟩ (hN.col 25 _ (by decide)) (z_if_eq 182 dX5_prints_172 (by decide) (fun c_172 => ?_) (fun c_172 => ?_)))))))))))))))))))))))))))))))))))))))))))))))))))))))))
    · refine z_aload0 dX5_prints_182 (z_getIv fl_X5_85 dX5_prints_183 rfl rfl (hN.s34 7 (by decide)) ?_)
      exact j186 _ (by rw [postF, ep, if_pos c_172])
    · refine z_aload0 dX5_prints_175 (z_getIv fl_X5_88 dX5_prints_176 rfl rfl (hN.s34 8 (by decide)) (z_goto 186 dX5_prints_179 (by decide) ?_))
      exact j186 _ (by rw [postF, ep, if_neg c_172])
  refine z_aload0 dX5_prints_0 (z_getP (v := some (104, 0)) fl_X5_112 dX5_prints_1 rfl rfl (hM 53 rfl) (z_iload1 dX5_prints_4 (z_ialdv dX5_prints_5 rfl ⟨rfl, ha, Nat.le_of_ble_eq_true rfl⟩ (hR.col 12 _ (by decide)) (z_istore2 dX5_prints_6 (z_iconst (v := 0) dX5_prints_7 (by decide) (z_istore3 dX5_prints_8 ?_))))))
  rw [hp]
  by_cases hk3 : σ 13 a = 3
  · have t := tail σ μ 0 (by rw [if_pos hk3]) (fun _ _ _ => rfl) hR (fun c i hv _ => hR c i hv) Dif.rf
    refine z_iload3 dX5_prints_9 (z_aload0 dX5_prints_10 (z_getIv fl_X5_415 dX5_prints_11 rfl rfl (hR.s7 4 (by decide)) (z_icmp_ge 79 dX5_prints_14 (by decide) (fun c_14 => ?_) (fun c_14 => ?_))))
    · exact t
    · refine z_aload0 dX5_prints_17 (z_getP (v := some (105, 0)) fl_X5_115 dX5_prints_18 rfl rfl (hM 54 rfl) (z_iload1 dX5_prints_21 (z_ialdv dX5_prints_22 rfl ⟨rfl, ha, Nat.le_of_ble_eq_true rfl⟩ (hR.col 13 _ (by decide)) (z_iconst (v := 3) dX5_prints_23 (by decide) (z_icmp_eq 79 dX5_prints_24 (by decide) (fun c_24 => ?_) (fun c_24 => ?_))))))
      · exact t
      · exact absurd hk3 c_24
  · refine loopN (P := fun k => ∀ μ0, RepM (endS σ a k) μ0 → Dif SM μ μ0 → Z RX5 cX5_prints (4, none, [], false, rmm 3 0 0) (Γ, C, μ, ad, Q) (0) (0) (μ0) 9 [some (vr 50 0), some (vi (nI a)), some (vi (nI p)), some (vi (nI k))] []) n ?_ ?_ 0 (Nat.zero_le _) μ hR Dif.rf
    · intro μ0 hR0 hD
      have hN := endS_RepN hR0
      have t := tail _ μ0 (nI n) rfl (fun c i hc => by rw [if_neg hk3]; exact endS_ne _ c i hc) (by rw [if_neg hk3, en]; exact hR0) hN hD
      refine z_iload3 dX5_prints_9 (z_aload0 dX5_prints_10 (z_getIv fl_X5_415 dX5_prints_11 rfl rfl (hN.s7 4 (by decide)) (z_icmp_ge 79 dX5_prints_14 (by decide) (fun _ => ?_) (fun c => absurd (lpt hn) c))))
      exact t
    · intro k hk ih μ0 hR0 hD
      have hN := endS_RepN hR0
      have hM0 : MOK μ0 := hM.of hD.1
      have hk2 : k < 150 := by omega
      have hb0 : k < tn (endS σ a k 7 4) := by rw [endS_ne k 7 4 (by decide)]; exact hb k hk
      have e8 : gI μ0 118 0 k = σ 8 k := (hR0.bk 8 k (by decide) hb0).trans (endS_ne k 8 k (by decide))
      have e9 : gI μ0 119 0 k = σ 9 k := (hR0.bk 9 k (by decide) hb0).trans (endS_ne k 9 k (by decide))
      have e10 : gI μ0 120 0 k = endS σ a k 10 k := hR0.bk 10 k (by decide) hb0
      have skip : ¬ (σ 8 k = nI p ∧ σ 9 k ≤ σ 7 0 ∧ σ 7 0 < endS σ a k 10 k) → Z RX5 cX5_prints (4, none, [], false, rmm 3 0 0) (Γ, C, μ, ad, Q) (0) (0) (μ0) 73 [some (vr 50 0), some (vi (nI a)), some (vi (nI p)), some (vi (nI k))] [] := by
        intro q
        refine z_iinc3 dX5_prints_73 (inc1 k) (z_goto 9 dX5_prints_76 (by decide) ?_)
        refine ih μ0 ?_ hD
        rw [endS, validB, hp, endS_ne k 8 k (by decide), endS_ne k 9 k (by decide), decide_eq_false q]
        exact hR0
      refine z_iload3 dX5_prints_9 (z_aload0 dX5_prints_10 (z_getIv fl_X5_415 dX5_prints_11 rfl rfl (hN.s7 4 (by decide)) (z_icmp_ge 79 dX5_prints_14 (by decide) (fun c => absurd c (lpf hn hk (by omega))) (fun _ => z_aload0 dX5_prints_17 (z_getP (v := some (105, 0)) fl_X5_115 dX5_prints_18 rfl rfl (hM0 54 rfl) (z_iload1 dX5_prints_21 (z_ialdv dX5_prints_22 rfl ⟨rfl, ha, Nat.le_of_ble_eq_true rfl⟩ (hN.col 13 _ (by decide)) (z_iconst (v := 3) dX5_prints_23 (by decide) (z_icmp_eq 79 dX5_prints_24 (by decide) (fun c => absurd c (hk3)) (fun _ => z_aload0 dX5_prints_27 (z_getP (v := some (118, 0)) fl_X5_151 dX5_prints_28 rfl rfl (hM0 67 rfl) (z_iload3 dX5_prints_31 (z_ialdv dX5_prints_32 rfl ⟨rfl, hk2, Nat.le_of_ble_eq_true rfl⟩ (e8) (z_iload2 dX5_prints_33 (z_icmp_ne 73 dX5_prints_34 (by decide) (fun c_34 => ?_) (fun c_34 => ?_))))))))))))))))
      · exact skip fun q => c_34 q.1
      · refine z_aload0 dX5_prints_37 (z_getP (v := some (119, 0)) fl_X5_154 dX5_prints_38 rfl rfl (hM0 68 rfl) (z_iload3 dX5_prints_41 (z_ialdv dX5_prints_42 rfl ⟨rfl, hk2, Nat.le_of_ble_eq_true rfl⟩ (e9) (z_aload0 dX5_prints_43 (z_getIv fl_X5_314 dX5_prints_44 rfl rfl (hN.s7 0 (by decide)) (z_icmp_gt 73 dX5_prints_47 (by decide) (fun c_47 => ?_) (fun c_47 => ?_)))))))
        · exact skip fun q => absurd q.2.1 (Int32.not_le.mpr c_47)
        · refine z_aload0 dX5_prints_50 (z_getIv fl_X5_314 dX5_prints_51 rfl rfl (hN.s7 0 (by decide)) (z_aload0 dX5_prints_54 (z_getP (v := some (120, 0)) fl_X5_157 dX5_prints_55 rfl rfl (hM0 69 rfl) (z_iload3 dX5_prints_58 (z_ialdv dX5_prints_59 rfl ⟨rfl, hk2, Nat.le_of_ble_eq_true rfl⟩ (e10) (z_icmp_ge 73 dX5_prints_60 (by decide) (fun c_60 => ?_) (fun c_60 => ?_)))))))
          · exact skip fun q => absurd q.2.2 (Int32.not_lt.mpr c_60)
          · refine z_aload0 dX5_prints_63 (z_getP (v := some (120, 0)) fl_X5_157 dX5_prints_64 rfl rfl (hM0 69 rfl) (z_iload3 dX5_prints_67 (z_aload0 dX5_prints_68 (z_getIv fl_X5_314 dX5_prints_69 rfl rfl (hN.s7 0 (by decide)) (z_iast dX5_prints_72 rfl ⟨rfl, hk2, Nat.le_of_ble_eq_true rfl⟩ (z_iinc3 dX5_prints_73 (inc1 k) (z_goto 9 dX5_prints_76 (by decide) ?_)))))))
            refine ih _ ?_ (hD.tr (difM (c := 10) (j := k) (sM_col (by decide))))
            rw [endS, validB, hp, endS_ne k 8 k (by decide), endS_ne k 9 k (by decide), decide_eq_true ⟨c_34, Int32.not_lt.mp c_47, Int32.not_le.mp c_60⟩]
            exact hR0.set 10 k (σ 7 0) (sM_col (by decide)) (by omega)
theorem M_does {a p : Nat} {x d : Int32} (hM : MOK μ) (hR : RepM σ μ) (hx : x = nI a) (ha : a < 120) (hd : d = 0 ∨ d = 1 ∨ d = 2 ∨ d = 3) (hp : σ 12 a = nI p) {np : Nat} (hnp : σ 34 1 = nI np) (hnp2 : np ≤ 80) (hpn : p < np) {n : Nat} (hn : σ 7 4 = nI n) (hn2 : d = 3 → n < 150) (h : ∀ μ', RepM (doesF true σ d a) μ' → Dif SM μ μ' → Q rV μ') : Ct RX5 cX5_does (3, none, [], false, rmm 4 0 0) [vr 50 0, vi d, vi x] μ Q := by
  refine Ct.of (ls := [some (vr 50 0), some (vi d), some (vi x)]) rfl fun Γ C ad => ?_
  subst hx
  rcases hd with rfl | rfl | rfl | rfl
  · rw [doesF, if_pos rfl] at h
    have r1 := hR.set 2 a (σ 7 0) (sM_col (by decide)) (by omega)
    have d1 : Dif SM μ (sI μ 116 0 (7 * a + 2) (σ 7 0)) := difM (c := 2) (j := a) (sM_col (by decide))
    by_cases hl : lackF σ a = 0
    · rw [if_pos hl, if_pos hl] at h
      have r2 := r1.set 0 a 2 (sM_col (by decide)) (by omega)
      have r3 := r2.set 5 a (σ 5 a + 0) (sM_col (by decide)) (by omega)
      refine z_iload1 dX5_does_0 (z_tabIn 28 dX5_does_1 (by decide) (by decide) rfl (by decide) (z_aload0 dX5_does_28 (z_iload2 dX5_does_29 (z_iconst (v := 2) dX5_does_30 (by decide) (z_aload0 dX5_does_31 (z_getIv fl_X5_314 dX5_does_32 rfl rfl (hR.s7 0 (by decide)) (z_invV3 (md_X5_sets _) cv_X5_425 rfl dX5_does_35 rfl (by decide) (Rm.ofB rfl) (M_sets (w := 2) hM rfl rfl (by omega) (z_aload0 dX5_does_38 (z_iload2 dX5_does_39 (z_iconst (v := 0) dX5_does_40 (by decide) (z_aload0 dX5_does_41 (z_iload2 dX5_does_42 (z_invV1 (md_X5_lacksOf _) cv_X5_437 rfl dX5_does_43 rfl (by decide) (Rm.ofB rfl) (M_lacksOf hM r1 rfl ha (z_if_ne 53 dX5_does_46 (by decide) (fun c => absurd (hl) c) (fun _ => z_iconst (v := 2) dX5_does_49 (by decide) (z_goto 54 dX5_does_50 (by decide) (z_invV3 (md_X5_sets _) cv_X5_425 rfl dX5_does_54 rfl (by decide) (Rm.ofB rfl) (M_sets (w := 0) hM rfl rfl (by omega) (z_aload0 dX5_does_57 (z_iload2 dX5_does_58 (z_iconst (v := 5) dX5_does_59 (by decide) (z_aload0 dX5_does_60 (z_iload2 dX5_does_61 (z_iconst (v := 5) dX5_does_62 (by decide) (z_invV2 (md_X5_now _) cv_X5_434 rfl dX5_does_63 rfl (by decide) (Rm.ofB rfl) (M_nowv (w := 5) hM rfl rfl (by omega) (r2.col 5 a (by decide)) (z_aload0 dX5_does_66 (z_iload2 dX5_does_67 (z_invV1 (md_X5_lacksOf _) cv_X5_437 rfl dX5_does_68 rfl (by decide) (Rm.ofB rfl) (M_lacksOf hM r2 rfl ha (z_if_ne 78 dX5_does_71 (by decide) (fun c => absurd (hl) c) (fun _ => z_iconst (v := 0) dX5_does_74 (by decide) (z_goto 79 dX5_does_75 (by decide) (z_iadd dX5_does_79 (z_invV3 (md_X5_sets _) cv_X5_425 rfl dX5_does_80 rfl (by decide) (Rm.ofB rfl) (M_sets (w := 5) hM rfl rfl (by omega) (z_goto 109 dX5_does_83 (by decide) (z_return dX5_does_109 rfl (by decide) (by decide) ?_))))))))))))))))))))))))))))))))))))))))
      exact h _ r3 ((d1.tr (difM (c := 0) (j := a) (sM_col (by decide)))).tr (difM (c := 5) (j := a) (sM_col (by decide))))
    · rw [if_neg hl, if_neg hl] at h
      have r2 := r1.set 0 a 1 (sM_col (by decide)) (by omega)
      have r3 := r2.set 5 a (σ 5 a + 1) (sM_col (by decide)) (by omega)
      refine z_iload1 dX5_does_0 (z_tabIn 28 dX5_does_1 (by decide) (by decide) rfl (by decide) (z_aload0 dX5_does_28 (z_iload2 dX5_does_29 (z_iconst (v := 2) dX5_does_30 (by decide) (z_aload0 dX5_does_31 (z_getIv fl_X5_314 dX5_does_32 rfl rfl (hR.s7 0 (by decide)) (z_invV3 (md_X5_sets _) cv_X5_425 rfl dX5_does_35 rfl (by decide) (Rm.ofB rfl) (M_sets (w := 2) hM rfl rfl (by omega) (z_aload0 dX5_does_38 (z_iload2 dX5_does_39 (z_iconst (v := 0) dX5_does_40 (by decide) (z_aload0 dX5_does_41 (z_iload2 dX5_does_42 (z_invV1 (md_X5_lacksOf _) cv_X5_437 rfl dX5_does_43 rfl (by decide) (Rm.ofB rfl) (M_lacksOf hM r1 rfl ha (z_if_ne 53 dX5_does_46 (by decide) (fun _ => z_iconst (v := 1) dX5_does_53 (by decide) (z_invV3 (md_X5_sets _) cv_X5_425 rfl dX5_does_54 rfl (by decide) (Rm.ofB rfl) (M_sets (w := 0) hM rfl rfl (by omega) (z_aload0 dX5_does_57 (z_iload2 dX5_does_58 (z_iconst (v := 5) dX5_does_59 (by decide) (z_aload0 dX5_does_60 (z_iload2 dX5_does_61 (z_iconst (v := 5) dX5_does_62 (by decide) (z_invV2 (md_X5_now _) cv_X5_434 rfl dX5_does_63 rfl (by decide) (Rm.ofB rfl) (M_nowv (w := 5) hM rfl rfl (by omega) (r2.col 5 a (by decide)) (z_aload0 dX5_does_66 (z_iload2 dX5_does_67 (z_invV1 (md_X5_lacksOf _) cv_X5_437 rfl dX5_does_68 rfl (by decide) (Rm.ofB rfl) (M_lacksOf hM r2 rfl ha (z_if_ne 78 dX5_does_71 (by decide) (fun _ => z_iconst (v := 1) dX5_does_78 (by decide) (z_iadd dX5_does_79 (z_invV3 (md_X5_sets _) cv_X5_425 rfl dX5_does_80 rfl (by decide) (Rm.ofB rfl) (M_sets (w := 5) hM rfl rfl (by omega) (z_goto 109 dX5_does_83 (by decide) (z_return dX5_does_109 rfl (by decide) (by decide) ?_)))))) (fun c => absurd c (hl)))))))))))))))))) (fun c => absurd c (hl))))))))))))))))))
      exact h _ r3 ((d1.tr (difM (c := 0) (j := a) (sM_col (by decide)))).tr (difM (c := 5) (j := a) (sM_col (by decide))))
  · rw [doesF, if_neg (by decide), if_pos rfl] at h
    refine z_iload1 dX5_does_0 (z_tabIn 86 dX5_does_1 (by decide) (by decide) rfl (by decide) (z_aload0 dX5_does_86 (z_iload2 dX5_does_87 (z_invV1 (md_X5_checks _) cv_X5_440 rfl dX5_does_88 rfl (by decide) (Rm.ofB rfl) (M_checks hM hR rfl ha hp hnp hnp2 hpn (z_goto 109 dX5_does_91 (by decide) (z_return dX5_does_109 rfl (by decide) (by decide) ?_)))))))
    exact h _ (hR.set 0 a _ (sM_col (by decide)) (by omega)) (difM (c := 0) (j := a) (sM_col (by decide)))
  · rw [doesF, if_neg (by decide), if_neg (by decide), if_pos rfl] at h
    refine z_iload1 dX5_does_0 (z_tabIn 94 dX5_does_1 (by decide) (by decide) rfl (by decide) (z_aload0 dX5_does_94 (z_iload2 dX5_does_95 (z_iconst (v := 0) dX5_does_96 (by decide) (z_iconst (v := 5) dX5_does_97 (by decide) (z_invV3 (md_X5_sets _) cv_X5_425 rfl dX5_does_98 rfl (by decide) (Rm.ofB rfl) (M_sets (w := 0) hM rfl rfl (by omega) (z_goto 109 dX5_does_101 (by decide) (z_return dX5_does_109 rfl (by decide) (by decide) ?_)))))))))
    exact h _ (hR.set 0 a _ (sM_col (by decide)) (by omega)) (difM (c := 0) (j := a) (sM_col (by decide)))
  · rw [doesF, if_neg (by decide), if_neg (by decide), if_neg (by decide)] at h
    refine z_iload1 dX5_does_0 (z_tabOut 104 dX5_does_1 (by decide) (by decide) (z_aload0 dX5_does_104 (z_iload2 dX5_does_105 (z_invV1 (md_X5_prints _) cv_X5_462 rfl dX5_does_106 rfl (by decide) (Rm.ofB rfl) (M_prints hM hR rfl ha hp (by omega) hn (hn2 rfl) (fun μ2 hr2 hd2 => ?_))))))
    refine z_return dX5_does_109 rfl (by decide) (by decide) ?_
    exact h μ2 hr2 hd2
end M4
