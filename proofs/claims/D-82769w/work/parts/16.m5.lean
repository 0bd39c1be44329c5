/-! Model: rows at the desks, days -/
theorem getD_app {α : Type} {l l' : List α} {j : Nat} {d : α} (h : j < l.length) : (l ++ l').getD j d = l.getD j d := by
  rw [List.getD_eq_getElem?_getD, List.getD_eq_getElem?_getD, List.getElem?_append_left h]
theorem getD_appR {α : Type} {l l' : List α} {j : Nat} {d : α} (h : l.length ≤ j) : (l ++ l').getD j d = l'.getD (j - l.length) d := by
  rw [List.getD_eq_getElem?_getD, List.getD_eq_getElem?_getD, List.getElem?_append_right h]
section M5
variable {μ μ' : Mem} {Q : Res → Mem → Prop} {σ : Sg}
def rowIs (A : Nat → Int32) (l : List Nat) : Prop := ∀ j, j < l.length → A j = nI (l.getD j 0)
theorem rowIs_fin {A B : Nat → Int32} {S T : List Nat} {k : Nat} (h1 : ∀ j, j < T.length → A j = nI (T.reverse.getD j 0)) (h2 : ∀ j, j < S.length → A (T.length + 1 + j) = nI (S.reverse.getD j 0)) (hB : B T.length = nI k) (hB2 : ∀ j, j ≠ T.length → B j = A j) : rowIs B (S ++ k :: T).reverse := by
  intro j hj
  have e : (S ++ k :: T).reverse = T.reverse ++ (k :: S.reverse) := by simp
  have hl : j < T.length + 1 + S.length := by simpa [Nat.add_comm, Nat.add_left_comm, Nat.add_assoc] using hj
  rw [e]
  by_cases q1 : j < T.length
  · rw [hB2 j (by omega), h1 j q1, getD_app (by simpa using q1)]
  · rw [getD_appR (by simpa using q1), List.length_reverse]
    by_cases q2 : j = T.length
    · rw [q2, hB, Nat.sub_self]; rfl
    · obtain ⟨m, rfl⟩ : ∃ m, j = T.length + 1 + m := ⟨j - (T.length + 1), by omega⟩
      rw [hB2 _ q2, h2 m (by omega), show T.length + 1 + m - T.length = m + 1 by omega]
      rfl
/-- the Model's row of those who wait, and their number -/
def SL : Nat → Nat → Nat → Prop := fun p i k => p = 128 ∨ (p = 50 ∧ i = 0 ∧ k = 78)
theorem SL_SM : ∀ p k, SM p 0 k → ¬ SL p 0 k := by
  rintro p k ⟨-, c, j, hs, rfl, rfl⟩ (h | ⟨h1, -, h2⟩)
  · have : ∀ c, c < 40 → mp c ≠ 128 := by decide +kernel
    exact this c (sM_lt hs) h
  · have h7 : ∀ c, c < 40 → mp c = 50 → c = 7 ∨ c = 34 := by decide +kernel
    have h8 : ∀ j, j < 6 → tS.getD j 0 ≠ 78 := by decide +kernel
    have h9 : ∀ j, j < 18 → tT.getD j 0 ≠ 78 := by decide +kernel
    rcases h7 c (sM_lt hs) h1 with rfl | rfl
    · exact h8 j (sM_7 hs) h2
    · exact h9 j (sM_34 hs) h2
theorem dec1 (k : Nat) : nI (k + 1) + Int32.ofInt (-1) = nI k := pk_m1 k
theorem getD_rev_last (x : Nat) (T : List Nat) : (x :: T).reverse.getD T.length 0 = x := by
  rw [List.reverse_cons, getD_appR (by simp), List.length_reverse, Nat.sub_self]
  rfl
theorem getD_rev_lt {x j : Nat} {T : List Nat} (h : j < T.length) : (x :: T).reverse.getD j 0 = T.reverse.getD j 0 := by
  rw [List.reverse_cons, getD_app (by simpa using h)]
set_option maxRecDepth 4000 in
theorem M_lines {d r : Int32} (hM : MOK μ) (hR : RepM σ μ) {n np nl : Nat} (hP : PD σ n np nl) (h : ∀ μ', Dif SL μ μ' → gI μ' 50 0 78 = nI (lineF σ d r).length → rowIs (gI μ' 128 0) (lineF σ d r) → Q rV μ') : Ct RX5 cX5_lines (5, none, [], false, rmm 3 0 0) [vr 50 0, vi d, vi r] μ Q := by
  refine Ct.of (ls := [some (vr 50 0), some (vi d), some (vi r), none, none]) rfl fun Γ C ad => ?_
  obtain ⟨⟨hn, hn2⟩, -, -, -, hu⟩ := hP
  have en : tn (σ 34 2) = n := by rw [hn, tn_nI (by omega)]
  refine z_aload0 dX5_lines_0 (z_iconst (v := 0) dX5_lines_1 (by decide) (z_putI fl_X5_447 dX5_lines_2 rfl rfl ⟨rfl, rfl⟩ (z_iconst (v := 0) dX5_lines_5 (by decide) (z_istore3 dX5_lines_6 ?_))))
  have go : ∀ k, k ≤ n → ∀ (μ' : Mem) (o : Option AV), Dif SL μ μ' → gI μ' 50 0 78 = nI (lineS σ d r k).length → rowIs (gI μ' 128 0) (lineS σ d r k).reverse → Z RX5 cX5_lines (5, none, [], false, rmm 3 0 0) (Γ, C, μ, ad, Q) 0 0 μ' 7 [some (vr 50 0), some (vi d), some (vi r), some (vi (nI k)), o] [] := by
    refine loopN (P := fun k => ∀ (μ' : Mem) (o : Option AV), Dif SL μ μ' → gI μ' 50 0 78 = nI (lineS σ d r k).length → rowIs (gI μ' 128 0) (lineS σ d r k).reverse → Z RX5 cX5_lines (5, none, [], false, rmm 3 0 0) (Γ, C, μ, ad, Q) 0 0 μ' 7 [some (vr 50 0), some (vi d), some (vi r), some (vi (nI k)), o] []) n ?_ ?_
    · intro μ' o hD hw hr
      have hR' := hR.dif hD SL_SM
      refine z_iload3 dX5_lines_7 (z_aload0 dX5_lines_8 (z_getIv fl_X5_412 dX5_lines_9 rfl rfl (hR'.s34 2 (by decide)) (z_icmp_ge 106 dX5_lines_12 (by decide) (fun _ => z_return dX5_lines_106 rfl (by decide) (by decide) ?_) (fun c => absurd (lpt hn) c))))
      rw [lineF, en, List.length_reverse] at h
      exact h μ' hD hw hr
    · intro k hk ih μ' o hD hw hr
      have hR' := hR.dif hD SL_SM
      have hM' : MOK μ' := hM.of hD.1
      rw [lineS] at ih
      refine z_iload3 dX5_lines_7 (z_aload0 dX5_lines_8 (z_getIv fl_X5_412 dX5_lines_9 rfl rfl (hR'.s34 2 (by decide)) (z_icmp_ge 106 dX5_lines_12 (by decide) (fun c => absurd c (lpf hn hk (by omega))) (fun _ => z_aload0 dX5_lines_15 (z_iload3 dX5_lines_16 (z_iconst (v := 0) dX5_lines_17 (by decide) (z_invV2 (md_X5_now _) cv_X5_434 rfl dX5_lines_18 rfl (by decide) (Rm.ofB rfl) (M_nowv (w := 0) hM' rfl rfl (by omega) (hR'.col 0 k (by decide)) (z_iload1 dX5_lines_21 (z_invS1 (md_X5_stateAt _) cs_X5_450 dX5_lines_22 rfl (by decide) (Rm.ofB rfl) (M_stateAt (z_icmp_eq 31 dX5_lines_25 (by decide) (fun c_25 => ?_) (fun c_25 => ?_)))))))))))))
      · rw [if_pos c_25] at ih
        have hlen := lineS_len σ d r k
        have inner : ∀ (T S : List Nat) (μ2 : Mem), lineS σ d r k = S ++ T → insR (aheadB σ r) k (lineS σ d r k) = S ++ insR (aheadB σ r) k T → Dif SL μ μ2 → gI μ2 50 0 78 = nI (lineS σ d r k).length → (∀ j, j < T.length → gI μ2 128 0 j = nI (T.reverse.getD j 0)) → (∀ j, j < S.length → gI μ2 128 0 (T.length + 1 + j) = nI (S.reverse.getD j 0)) → Z RX5 cX5_lines (5, none, [], false, rmm 3 0 0) (Γ, C, μ, ad, Q) (0) (0) (μ2) 37 [some (vr 50 0), some (vi d), some (vi r), some (vi (nI k)), some (vi (nI T.length))] [] := by
          have fin : ∀ (T S : List Nat) (μ2 : Mem), lineS σ d r k = S ++ T → insR (aheadB σ r) k (lineS σ d r k) = S ++ k :: T → Dif SL μ μ2 → gI μ2 50 0 78 = nI (lineS σ d r k).length → (∀ j, j < T.length → gI μ2 128 0 j = nI (T.reverse.getD j 0)) → (∀ j, j < S.length → gI μ2 128 0 (T.length + 1 + j) = nI (S.reverse.getD j 0)) → Z RX5 cX5_lines (5, none, [], false, rmm 3 0 0) (Γ, C, μ, ad, Q) (0) (0) (μ2) 82 [some (vr 50 0), some (vi d), some (vi r), some (vi (nI k)), some (vi (nI T.length))] [] := by
            intro T S μ2 e1 e2 hD2 hw2 g1 g2
            have hTl : T.length < 120 := by
              have := congrArg List.length e1
              rw [List.length_append] at this
              omega
            refine z_aload0 dX5_lines_82 (z_getP (v := some (128, 0)) fl_X5_163 dX5_lines_83 rfl rfl ((hM.of hD2.1) 77 rfl) (z_iload4 dX5_lines_86 (z_iload3 dX5_lines_88 (z_iast dX5_lines_89 rfl ⟨rfl, hTl, Nat.le_of_ble_eq_true rfl⟩ (z_aload0 dX5_lines_90 (z_dupa dX5_lines_91 (z_getI fl_X5_447 dX5_lines_92 rfl rfl (z_iconst (v := 1) dX5_lines_95 (by decide) (z_iadd dX5_lines_96 (z_putI fl_X5_447 dX5_lines_97 rfl rfl ⟨rfl, rfl⟩ (z_iinc3 dX5_lines_100 (inc1 k) (z_goto 7 dX5_lines_103 (by decide) ?_))))))))))))
            refine ih _ _ ((hD2.tr (Dif.sI (Or.inl rfl))).tr (Dif.sI (Or.inr ⟨rfl, rfl, rfl⟩))) ?_ ?_
            · rw [gI_sI, if_pos ⟨rfl, rfl, rfl⟩, gI_sI, if_neg (by simp), hw2, nI_1, insR_len]
            · rw [e2]
              exact rowIs_fin g1 g2 (by rw [gI_sI, if_neg (by simp), gI_sI, if_pos ⟨rfl, rfl, rfl⟩]) (fun j hj => by rw [gI_sI, if_neg (by simp), gI_sI, if_neg (fun q => hj q.2.2)])
          intro T
          induction T with
          | nil =>
            intro S μ2 e1 e2 hD2 hw2 g1 g2
            refine z_iload4 dX5_lines_37 (z_if_le 82 dX5_lines_39 (by decide) (fun _ => ?_) (fun c => absurd ((by decide : nI ([] : List Nat).length ≤ 0)) c))
            exact fin [] S μ2 e1 e2 hD2 hw2 g1 g2
          | cons x T ihT =>
            intro S μ2 e1 e2 hD2 hw2 g1 g2
            have hxm : x ∈ lineS σ d r k := by rw [e1]; exact List.mem_append_right _ List.mem_cons_self
            have hx := (lineS_lt σ d r k x hxm).1
            have hl : S.length + (T.length + 1) ≤ k := by
              have := congrArg List.length e1
              rw [List.length_append, List.length_cons] at this
              omega
            have hR2 := hR.dif hD2 SL_SM
            have hM2 : MOK μ2 := hM.of hD2.1
            have ex : gI μ2 128 0 T.length = nI x := (g1 T.length (Nat.lt_succ_self _)).trans (by rw [getD_rev_last])
            have e2' : insR (aheadB σ r) k (lineS σ d r k) = S ++ (if aheadB σ r k x then x :: insR (aheadB σ r) k T else k :: x :: T) := e2
            refine z_iload4 dX5_lines_37 (z_if_le 82 dX5_lines_39 (by decide) (fun c => absurd c (nI_nle (n := T.length + 1) (by omega) (by omega))) (fun _ => z_aload0 dX5_lines_42 (z_iload3 dX5_lines_43 (z_aload0 dX5_lines_44 (z_getP (v := some (128, 0)) fl_X5_163 dX5_lines_45 rfl rfl (hM2 77 rfl) (z_iload4 dX5_lines_48 (z_iconst (v := 1) dX5_lines_50 (by decide) (z_isub dX5_lines_51 (z_ialdv dX5_lines_52 rfl ⟨nI_pred T.length, (show T.length < 120 by omega), Nat.le_of_ble_eq_true rfl⟩ (ex) (z_iload2 dX5_lines_53 (z_invV3 (md_X5_isAhead _) cv_X5_453 rfl dX5_lines_54 rfl (by decide) (Rm.ofB rfl) (M_isAhead hM2 hR2 rfl rfl (show k < 120 by omega) (show x < 120 by omega) (hu k hk) (z_if_eq 82 dX5_lines_57 (by decide) (fun c_57 => ?_) (fun c_57 => ?_))))))))))))))
            · rw [bI_0.mp c_57] at e2'
              exact fin (x :: T) S μ2 e1 e2' hD2 hw2 g1 g2
            · rw [bI_n0 c_57, if_pos rfl] at e2'
              refine z_aload0 dX5_lines_60 (z_getP (v := some (128, 0)) fl_X5_163 dX5_lines_61 rfl rfl (hM2 77 rfl) (z_iload4 dX5_lines_64 (z_aload0 dX5_lines_66 (z_getP (v := some (128, 0)) fl_X5_163 dX5_lines_67 rfl rfl (hM2 77 rfl) (z_iload4 dX5_lines_70 (z_iconst (v := 1) dX5_lines_72 (by decide) (z_isub dX5_lines_73 (z_ialdv dX5_lines_74 rfl ⟨nI_pred T.length, (show T.length < 120 by omega), Nat.le_of_ble_eq_true rfl⟩ (ex) (z_iast dX5_lines_75 rfl ⟨rfl, (show T.length + 1 < 120 by omega), Nat.le_of_ble_eq_true rfl⟩ (z_iinc4 dX5_lines_76 (dec1 T.length) (z_goto 37 dX5_lines_79 (by decide) ?_)))))))))))
              refine ihT (S ++ [x]) _ (by rw [e1, List.append_assoc]; rfl) (by rw [e2', List.append_assoc]; rfl) (hD2.tr (Dif.sI (Or.inl rfl))) (by rw [gI_sI, if_neg (by simp)]; exact hw2) (fun j hj => ?_) (fun j hj => ?_)
              · rw [gI_sI, if_neg (fun q => by have := q.2.2; rw [List.length_cons] at this; omega), g1 j (by rw [List.length_cons]; omega), getD_rev_lt hj]
              · rw [List.reverse_append, List.reverse_singleton]
                cases j with
                | zero => rw [gI_sI, if_pos ⟨rfl, rfl, rfl⟩]; rfl
                | succ j =>
                  rw [gI_sI, if_neg (fun q => by have := q.2.2; rw [List.length_cons] at this; omega)]
                  have := g2 j (by rw [List.length_append, List.length_singleton] at hj; omega)
                  rw [List.length_cons, show T.length + 1 + 1 + j = T.length + 1 + (j + 1) by omega] at this
                  rw [this]
                  rfl
        refine z_aload0 dX5_lines_31 (z_getI fl_X5_447 dX5_lines_32 rfl rfl (z_istore4 dX5_lines_35 ?_))
        rw [hw]
        exact inner _ [] μ' rfl rfl hD hw (fun j hj => hr j (by rw [List.length_reverse]; exact hj)) (fun j hj => absurd hj (Nat.not_lt_zero _))
      · rw [if_neg c_25] at ih
        refine z_goto 100 dX5_lines_28 (by decide) (z_iinc3 dX5_lines_100 (inc1 k) (z_goto 7 dX5_lines_103 (by decide) ?_))
        exact ih μ' o hD hw hr
  refine go 0 (Nat.zero_le _) _ none (Dif.sI (Or.inr ⟨rfl, rfl, rfl⟩)) (by rw [gI_sI, if_pos ⟨rfl, rfl, rfl⟩]; rfl) (fun j hj => absurd hj (Nat.not_lt_zero _))
/-- the Model's own places -/
def SW : Nat → Nat → Nat → Prop := fun p i k => SM p i k ∨ SL p i k
theorem row_keep {l : List Nat} (h : gI μ 50 0 78 = nI l.length ∧ rowIs (gI μ 128 0) l) (hD : Dif SM μ μ') : gI μ' 50 0 78 = nI l.length ∧ rowIs (gI μ' 128 0) l := by
  have n1 : ∀ k, ¬ SM 128 0 k := fun k q => SL_SM 128 k q (Or.inl rfl)
  have n2 : ¬ SM 50 0 78 := fun q => SL_SM 50 78 q (Or.inr ⟨rfl, rfl, rfl⟩)
  exact ⟨(hD.2 _ _ _ n2).trans h.1, fun j hj => (hD.2 _ _ _ (n1 j)).trans (h.2 j hj)⟩
theorem canP_eq {σ : Sg} (hB : BR σ) : (decide (0 < σ 7 1) && !decide (σ 34 16 ≤ σ 7 0 ∧ σ 7 0 ≤ σ 34 17) && decide (σ 7 4 < 150)) = canP σ := by
  unfold canP
  rw [hB (σ 7 0)]
theorem lineF_lt {σ : Sg} {d r : Int32} {x : Nat} (h : x ∈ lineF σ d r) : x < tn (σ 34 2) := (lineS_lt σ d r _ x (List.mem_reverse.mp h)).1
set_option maxRecDepth 4000 in
theorem M_works {d : Nat} {x r : Int32} (hM : MOK μ) (hR : RepM σ μ) (hx : x = nI d) (hd : d < 4) {n np nl : Nat} (hP : PD σ n np nl) (hB : BR σ) {nb : Nat} (hb : σ 7 4 = nI nb) (hb2 : nb ≤ 150) (h : ∀ μ', RepM (worksF true σ d r) μ' → Dif SW μ μ' → Q rV μ') : Ct RX5 cX5_works (6, none, [], false, rmm 5 0 0) [vr 50 0, vi x, vi r] μ Q := by
  refine Ct.of (ls := [some (vr 50 0), some (vi x), some (vi r), none, none, none]) rfl fun Γ C ad => ?_
  subst hx
  have hd4 : nI d = 0 ∨ nI d = 1 ∨ nI d = 2 ∨ nI d = 3 := by
    have : d = 0 ∨ d = 1 ∨ d = 2 ∨ d = 3 := by omega
    rcases this with rfl | rfl | rfl | rfl
    · exact Or.inl rfl
    · exact Or.inr (Or.inl rfl)
    · exact Or.inr (Or.inr (Or.inl rfl))
    · exact Or.inr (Or.inr (Or.inr rfl))
  have en : tn (σ 34 2) = n := by rw [hP.1.1, tn_nI (by have := hP.1.2; omega)]
  have n120 := hP.1.2
  have loop : ∀ (t pre : List Nat) (σ' : Sg) (u : Int32) (μ' : Mem) (o : Option AV), lineF σ (nI d) r = pre ++ t → RepM σ' μ' → SameTh σ σ' → (∃ nb, σ' 7 4 = nI nb ∧ nb ≤ 150) → Dif SW μ μ' → (gI μ' 50 0 78 = nI (lineF σ (nI d) r).length ∧ rowIs (gI μ' 128 0) (lineF σ (nI d) r)) →
      (∀ μ2, RepM (up2 (wkS true (nI d) σ' u t).1 7 3 ((wkS true (nI d) σ' u t).1 7 3 + (wkS true (nI d) σ' u t).2)) μ2 → Dif SW μ μ2 → Q rV μ2) →
      Z RX5 cX5_works (6, none, [], false, rmm 5 0 0) (Γ, C, μ, ad, Q) 0 0 μ' 34 [some (vr 50 0), some (vi (nI d)), some (vi r), some (vi u), some (vi (nI pre.length)), o] [] := by
    intro t
    have fin : ∀ (σ' : Sg) (u : Int32) (μ' : Mem) (o1 o : Option AV), RepM σ' μ' → Dif SW μ μ' → (∀ μ2, RepM (up2 σ' 7 3 (σ' 7 3 + u)) μ2 → Dif SW μ μ2 → Q rV μ2) → Z RX5 cX5_works (6, none, [], false, rmm 5 0 0) (Γ, C, μ, ad, Q) 0 0 μ' 101 [some (vr 50 0), some (vi (nI d)), some (vi r), some (vi u), o1, o] [] := by
      intro σ' u μ' o1 o hR' hD hq
      refine z_aload0 dX5_works_101 (z_dupa dX5_works_102 (z_getIv fl_X5_481 dX5_works_103 rfl rfl (hR'.s7 3 (by decide)) (z_iload3 dX5_works_106 (z_iadd dX5_works_107 (z_putI fl_X5_481 dX5_works_108 rfl rfl ⟨rfl, rfl⟩ (z_return dX5_works_111 rfl (by decide) (by decide) ?_))))))
      exact hq _ (hR'.set 7 3 _ (show (3 : Nat) < 6 by decide) (by decide)) (hD.tr ((difM (c := 7) (j := 3) (show (3 : Nat) < 6 by decide)).mono fun _ _ _ q => Or.inl q))
    induction t with
    | nil =>
      intro pre σ' u μ' o e hR' hT hb' hD hrow hq
      rw [List.append_nil] at e
      refine z_iload4 dX5_works_34 (z_aload0 dX5_works_36 (z_getI fl_X5_447 dX5_works_37 rfl rfl (z_icmp_ge 101 dX5_works_40 (by decide) (fun _ => ?_) (fun c => absurd ((by rw [hrow.1, e]; exact Int32.le_refl _)) c))))
      exact fin σ' u μ' _ o hR' hD hq
    | cons a t iht =>
      intro pre σ' u μ' o e hR' hT hb' hD hrow hq
      have hM' : MOK μ' := hM.of hD.1
      have hP' := hP.th hT
      obtain ⟨nb', hb1, hb3⟩ := hb'
      have ham : a ∈ lineF σ (nI d) r := by rw [e]; exact List.mem_append_right _ List.mem_cons_self
      have han : a < n := by rw [← en]; exact lineF_lt ham
      have hlen : (lineF σ (nI d) r).length = pre.length + (t.length + 1) := by rw [e, List.length_append, List.length_cons]
      have hll : (lineF σ (nI d) r).length ≤ n := by
        rw [lineF, List.length_reverse, en]; exact lineS_len _ _ _ _
      have erow : gI μ' 128 0 pre.length = nI a := by
        rw [hrow.2 pre.length (by omega), e, getD_appR (Nat.le_refl _), Nat.sub_self]
        rfl
      have hlt : ¬ gI μ' 50 0 78 ≤ nI pre.length := by rw [hrow.1]; exact nI_ge (by omega) (by omega)
      have e1 : wkS true (nI d) σ' u (a :: t) = if u < costF σ' (nI d) a ∨ (nI d = 3 ∧ canP σ' = false) then (σ', u) else wkS true (nI d) (doesF true σ' (nI d) a) (u - costF σ' (nI d) a) t := rfl
      have ix : Ix (nI pre.length) pre.length 120 := ⟨rfl, by omega, by decide⟩
      have go : ¬ (u < costF σ' (nI d) a ∨ (nI d = 3 ∧ canP σ' = false)) → Z RX5 cX5_works (6, none, [], false, rmm 5 0 0) (Γ, C, μ, ad, Q) (0) (0) (μ') 78 [some (vr 50 0), some (vi (nI d)), some (vi r), some (vi u), some (vi (nI pre.length)), some (vi (costF σ' (nI d) a))] [] := by
        intro hc
        rw [e1, if_neg hc] at hq
        obtain ⟨p, hp1, hp2⟩ := hP'.2.2.2.1 a han
        have hn3 : nI d = 3 → nb' < 150 := fun q => by
          have hcp : canP σ' = true := by
            cases hz : canP σ' with
            | true => rfl
            | false => exact absurd (Or.inr ⟨q, hz⟩) hc
          have : σ' 7 4 < 150 := by
            unfold canP at hcp
            simp only [Bool.and_eq_true, decide_eq_true_eq] at hcp
            exact hcp.2
          rw [hb1] at this
          exact (nI_ltI (a := nb') (b := 150) (by omega) (by decide)).mp this
        refine z_iload3 dX5_works_78 (z_iload5 dX5_works_79 (z_isub dX5_works_81 (z_istore3 dX5_works_82 (z_aload0 dX5_works_83 (z_iload1 dX5_works_84 (z_aload0 dX5_works_85 (z_getP (v := some (128, 0)) fl_X5_163 dX5_works_86 rfl rfl (hM' 77 rfl) (z_iload4 dX5_works_89 (z_ialdv dX5_works_91 rfl ix (erow) (z_invV2 (md_X5_does _) cv_X5_478 rfl dX5_works_92 rfl (by decide) (Rm.ofB rfl) (M_does hM' hR' rfl (by omega) hd4 hp2 hP'.2.1.1 hP'.2.1.2 hp1 hb1 hn3 (fun μ2 hR2 hD2 => ?_))))))))))))
        refine z_iinc4 dX5_works_95 (inc1 pre.length) (z_goto 34 dX5_works_98 (by decide) ?_)
        have hT2 := hT.tr (th_does true σ' (nI d) a)
        have hb4 : ∃ nb, doesF true σ' (nI d) a 7 4 = nI nb ∧ nb ≤ 150 := by
          rw [does_74]
          split
          · exact ⟨nb', hb1, hb3⟩
          · rename_i q
            refine ⟨nb' + 1, by rw [hb1, nI_1], ?_⟩
            rcases hd4 with w | w | w | w
            · exact absurd (Or.inl w) q
            · exact absurd (Or.inr (Or.inl w)) q
            · exact absurd (Or.inr (Or.inr w)) q
            · have := hn3 w; omega
        have := iht (pre ++ [a]) _ _ μ2 (some (vi (costF σ' (nI d) a))) (by rw [e, List.append_assoc]; rfl) hR2 hT2 hb4 (hD.tr (hD2.mono fun _ _ _ q => Or.inl q)) (row_keep hrow hD2) hq
        rw [List.length_append, List.length_singleton] at this
        exact this
      have stopz : (u < costF σ' (nI d) a ∨ (nI d = 3 ∧ canP σ' = false)) → Z RX5 cX5_works (6, none, [], false, rmm 5 0 0) (Γ, C, μ, ad, Q) (0) (0) (μ') 101 [some (vr 50 0), some (vi (nI d)), some (vi r), some (vi u), some (vi (nI pre.length)), some (vi (costF σ' (nI d) a))] [] := by
        intro hc
        rw [e1, if_pos hc] at hq
        exact fin σ' u μ' _ _ hR' hD hq
      refine z_iload4 dX5_works_34 (z_aload0 dX5_works_36 (z_getI fl_X5_447 dX5_works_37 rfl rfl (z_icmp_ge 101 dX5_works_40 (by decide) (fun c => absurd c (hlt)) (fun _ => z_aload0 dX5_works_43 (z_iload1 dX5_works_44 (z_aload0 dX5_works_45 (z_getP (v := some (128, 0)) fl_X5_163 dX5_works_46 rfl rfl (hM' 77 rfl) (z_iload4 dX5_works_49 (z_ialdv dX5_works_51 rfl ix (erow) (z_invV2 (md_X5_takes _) cv_X5_472 rfl dX5_works_52 rfl (by decide) (Rm.ofB rfl) (M_takes hM' hR' rfl (by omega) (z_istore5 dX5_works_55 (z_iload5 dX5_works_57 (z_iload3 dX5_works_59 (z_icmp_gt 101 dX5_works_60 (by decide) (fun c_60 => ?_) (fun c_60 => ?_))))))))))))))))
      · exact stopz (Or.inl c_60)
      · refine z_iload1 dX5_works_63 (z_iconst (v := 3) dX5_works_64 (by decide) (z_icmp_ne 78 dX5_works_65 (by decide) (fun c_65 => ?_) (fun c_65 => ?_)))
        · exact go fun q => q.elim c_60 (fun q => c_65 q.1)
        · refine z_aload0 dX5_works_68 (z_invV0 (md_X5_canPrint _) cv_X5_475 rfl dX5_works_69 rfl (by decide) (Rm.ofB rfl) (M_canPrint hR' (z_if_ne 78 dX5_works_72 (by decide) (fun c_72 => ?_) (fun c_72 => ?_))))
          · rw [canP_eq (hB.th hT)] at c_72
            exact go fun q => q.elim c_60 (fun q => by rw [bI_n0 c_72] at q; cases q.2)
          · rw [canP_eq (hB.th hT)] at c_72
            refine z_goto 101 dX5_works_75 (by decide) ?_
            exact stopz (Or.inr ⟨c_65, bI_0.mp c_72⟩)
  have begin_ : ∀ u, u = unitD σ d → Z RX5 cX5_works (6, none, [], false, rmm 5 0 0) (Γ, C, μ, ad, Q) (0) (0) (μ) 25 [some (vr 50 0), some (vi (nI d)), some (vi r), some (vi u), none, none] [] := by
    intro u hu
    refine z_aload0 dX5_works_25 (z_iload1 dX5_works_26 (z_iload2 dX5_works_27 (z_invV2 (md_X5_lines _) cv_X5_468 rfl dX5_works_28 rfl (by decide) (Rm.ofB rfl) (M_lines hM hR hP (fun μ1 hD1 hw1 hr1 => ?_)))))
    refine z_iconst (v := 0) dX5_works_31 (by decide) (z_istore4 dX5_works_32 ?_)
    refine loop (lineF σ (nI d) r) [] σ u μ1 none rfl (hR.dif hD1 SL_SM) SameTh.rf ⟨nb, hb, hb2⟩ (hD1.mono fun _ _ _ q => Or.inr q) ⟨hw1, hr1⟩ ?_
    rw [worksF, ← hu] at h
    exact h
  refine z_aload0 dX5_works_0 (z_iload1 dX5_works_1 (z_aload0 dX5_works_2 (z_getIv fl_X5_314 dX5_works_3 rfl rfl (hR.s7 0 (by decide)) (z_invV2 (md_X5_unitsOf _) cv_X5_400 rfl dX5_works_6 rfl (by decide) (Rm.ofB rfl) (M_unitsOf hM hR rfl hd hP.2.2.1.1 hP.2.2.1.2 (z_istore3 dX5_works_9 (z_iload1 dX5_works_10 (z_if_ne 25 dX5_works_11 (by decide) (fun c_11 => ?_) (fun c_11 => ?_)))))))))
  · refine begin_ _ ?_
    rw [unitD, if_neg]
    intro q
    rw [q] at c_11
    exact c_11 rfl
  · refine z_iconst (v := 0) dX5_works_14 (by decide) (z_iload3 dX5_works_15 (z_aload0 dX5_works_16 (z_getIv fl_X5_465 dX5_works_17 rfl rfl (hR.s7 2 (by decide)) (z_isub dX5_works_20 (z_invS2 (md_J11_max _) cs_X5_366 dX5_works_21 rfl (by decide) (Rm.ofB rfl) (J_max (z_istore3 dX5_works_24 ?_)))))))
    have hd0 : d = 0 := (nI_eq (by omega) (by decide)).mp c_11
    refine begin_ _ ?_
    rw [unitD, if_pos hd0]
/-- and the count of all calls -/
def SD : Nat → Nat → Nat → Prop := fun p i k => SW p i k ∨ (p = 50 ∧ i = 0 ∧ k = 75)
theorem Dif.W {μ μ' : Mem} (h : Dif SM μ μ') : Dif SW μ μ' := h.mono fun _ _ _ q => Or.inl q
theorem Dif.D {μ μ' : Mem} (h : Dif SW μ μ') : Dif SD μ μ' := h.mono fun _ _ _ q => Or.inl q
theorem n75 {μ μ' : Mem} (h : Dif SW μ μ') : gI μ' 50 0 75 = gI μ 50 0 75 := by
  refine h.2 _ _ _ ?_
  rintro (⟨-, c, j, hs, h1, h2⟩ | h1)
  · have h7 : ∀ c, c < 40 → 50 = mp c → c = 7 ∨ c = 34 := by decide +kernel
    have h8 : ∀ j, j < 6 → 75 ≠ tS.getD j 0 := by decide +kernel
    have h9 : ∀ j, j < 18 → j ≠ 13 → 75 ≠ tT.getD j 0 := by decide +kernel
    rcases h7 c (sM_lt hs) h1 with rfl | rfl
    · exact h8 j (sM_7 hs) h2
    · exact h9 j (sM_34 hs) hs.2.2.2 h2
  · rcases h1 with h1 | ⟨-, -, h1⟩
    · cases h1
    · cases h1
theorem RepM.d75 {v : Int32} (hR : RepM σ μ) : RepM σ (sI μ 50 0 75 v) := by
  refine hR.dif (S := fun p i k => p = 50 ∧ i = 0 ∧ k = 75) (Dif.sI ⟨rfl, rfl, rfl⟩) ?_
  rintro p k ⟨-, c, j, hs, rfl, rfl⟩ ⟨h1, -, h2⟩
  have h7 : ∀ c, c < 40 → mp c = 50 → c = 7 ∨ c = 34 := by decide +kernel
  have h8 : ∀ j, j < 6 → tS.getD j 0 ≠ 75 := by decide +kernel
  have h9 : ∀ j, j < 18 → j ≠ 13 → tT.getD j 0 ≠ 75 := by decide +kernel
  rcases h7 c (sM_lt hs) h1 with rfl | rfl
  · exact h8 j (sM_7 hs) h2
  · exact h9 j (sM_34 hs) hs.2.2.2 h2
theorem th_works (m : Bool) (σ : Sg) (d : Nat) (r : Int32) : SameTh σ (worksF m σ d r) := by
  have wk : ∀ (t : List Nat) (σ' : Sg) (u : Int32), SameTh σ σ' → SameTh σ (wkS m (nI d) σ' u t).1 := by
    intro t
    induction t with
    | nil => intro σ' u h; exact h
    | cons a t ih =>
      intro σ' u h
      rw [wkS]
      split
      · exact h
      · exact ih _ _ (h.tr (th_does m σ' (nI d) a))
  exact (wk _ _ _ SameTh.rf).up (by omega)
theorem th_worksL (m : Bool) (σ : Sg) (r : Int32) : ∀ k, SameTh σ (worksL m σ r k)
  | 0 => SameTh.rf
  | k + 1 => (th_worksL m σ r k).tr (th_works m _ k r)
theorem th_getL (m : Bool) (σ : Sg) : ∀ k, SameTh σ (getL m σ k)
  | 0 => SameTh.rf
  | k + 1 => by
    rw [getL]
    split
    · exact (th_getL m σ k).tr (th_gets m _ k)
    · exact th_getL m σ k
theorem gets_7 (m : Bool) (σ : Sg) (a i : Nat) (hi : i ≠ 5) : getsF m σ a 7 i = σ 7 i := by
  unfold getsF
  split <;> simp [up2_eq, hi]
theorem getL_7 (m : Bool) (σ : Sg) (i : Nat) (hi : i ≠ 5) : ∀ k, getL m σ k 7 i = σ 7 i
  | 0 => rfl
  | k + 1 => by
    rw [getL]
    split
    · rw [gets_7 m _ _ _ hi]; exact getL_7 m σ i hi k
    · exact getL_7 m σ i hi k
theorem wkS_74 (m : Bool) (d : Int32) : ∀ (t : List Nat) (σ : Sg) (u : Int32) (nb : Nat), (d = 0 ∨ d = 1 ∨ d = 2 ∨ d = 3) → σ 7 4 = nI nb → nb ≤ 150 → ∃ nb', (wkS m d σ u t).1 7 4 = nI nb' ∧ nb' ≤ 150
  | [], σ, u, nb, _, h1, h2 => ⟨nb, h1, h2⟩
  | a :: t, σ, u, nb, hd, h1, h2 => by
    rw [wkS]
    split
    · exact ⟨nb, h1, h2⟩
    · rename_i hc
      by_cases h3 : d = 0 ∨ d = 1 ∨ d = 2
      · exact wkS_74 m d t _ _ nb hd (by rw [does_74, if_pos h3]; exact h1) h2
      · have hd3 : d = 3 := by
          rcases hd with w | w | w | w
          · exact absurd (Or.inl w) h3
          · exact absurd (Or.inr (Or.inl w)) h3
          · exact absurd (Or.inr (Or.inr w)) h3
          · exact w
        have hcp : canP σ = true := by
          cases hz : canP σ with
          | true => rfl
          | false => exact absurd (Or.inr ⟨hd3, hz⟩) hc
        have : σ 7 4 < 150 := by
          unfold canP at hcp
          simp only [Bool.and_eq_true, decide_eq_true_eq] at hcp
          exact hcp.2
        rw [h1] at this
        have := (nI_ltI (a := nb) (b := 150) (by omega) (by decide)).mp this
        exact wkS_74 m d t _ _ (nb + 1) hd (by rw [does_74, if_neg h3, h1, nI_1]) (by omega)
theorem nI_d4 {d : Nat} (hd : d < 4) : nI d = 0 ∨ nI d = 1 ∨ nI d = 2 ∨ nI d = 3 := by
  have : d = 0 ∨ d = 1 ∨ d = 2 ∨ d = 3 := by omega
  rcases this with rfl | rfl | rfl | rfl
  · exact Or.inl rfl
  · exact Or.inr (Or.inl rfl)
  · exact Or.inr (Or.inr (Or.inl rfl))
  · exact Or.inr (Or.inr (Or.inr rfl))
theorem works_74 (m : Bool) (σ : Sg) {d : Nat} (hd : d < 4) (r : Int32) {nb : Nat} (h1 : σ 7 4 = nI nb) (h2 : nb ≤ 150) : ∃ nb', worksF m σ d r 7 4 = nI nb' ∧ nb' ≤ 150 := by
  obtain ⟨nb', a, b⟩ := wkS_74 m (nI d) (lineF σ (nI d) r) σ (unitD σ d) nb (nI_d4 hd) h1 h2
  refine ⟨nb', ?_, b⟩
  rw [worksF, up2_eq, if_neg (by simp)]
  exact a
theorem worksL_74 (m : Bool) (σ : Sg) (r : Int32) {nb : Nat} (h1 : σ 7 4 = nI nb) (h2 : nb ≤ 150) : ∀ k, k ≤ 4 → ∃ nb', worksL m σ r k 7 4 = nI nb' ∧ nb' ≤ 150
  | 0, _ => ⟨nb, h1, h2⟩
  | k + 1, hk => by
    obtain ⟨nb', a, b⟩ := worksL_74 m σ r h1 h2 k (by omega)
    exact works_74 m _ (by omega) r a b
set_option maxRecDepth 4000 in
theorem M_day {r : Int32} (hM : MOK μ) (hR : RepM σ μ) {n np nl : Nat} (hP : PD σ n np nl) (hB : BR σ) {nb : Nat} (hb : σ 7 4 = nI nb) (hb2 : nb ≤ 150) (h : ∀ μ', RepM (dayF true σ r) μ' → gI μ' 50 0 75 = gI μ 50 0 75 + callF (dawnF true σ) → Dif SD μ μ' → Q rV μ') : Ct RX5 cX5_day (4, none, [], false, rmm 6 0 0) [vr 50 0, vi r] μ Q := by
  refine Ct.of (ls := [some (vr 50 0), some (vi r), none, none]) rfl fun Γ C ad => ?_
  have n120 := hP.1.2
  have en : tn (σ 34 2) = n := by rw [hP.1.1, tn_nI (by omega)]
  let σ1 : Sg := up2 σ 7 0 (σ 7 0 + 1)
  have hR1 : RepM σ1 (sI μ 50 0 1 (σ 7 0 + 1)) := hR.set 7 0 _ (show (0 : Nat) < 6 by decide) (by decide)
  have hD1 : Dif SM μ (sI μ 50 0 1 (σ 7 0 + 1)) := difM (c := 7) (j := 0) (show (0 : Nat) < 6 by decide)
  have t1 : SameTh σ σ1 := SameTh.rf.up (by omega)
  have ed : dawnF true σ = getL true σ1 n := by rw [dawnF, en]
  refine z_aload0 dX5_day_0 (z_dupa dX5_day_1 (z_getIv fl_X5_314 dX5_day_2 rfl rfl (hR.s7 0 (by decide)) (z_iconst (v := 1) dX5_day_5 (by decide) (z_iadd dX5_day_6 (z_putI fl_X5_314 dX5_day_7 rfl rfl ⟨rfl, rfl⟩ (z_iconst (v := 0) dX5_day_10 (by decide) (z_istore2 dX5_day_11 ?_)))))))
  have l1 : ∀ k, k ≤ n → ∀ μ', RepM (getL true σ1 k) μ' → Dif SM μ μ' → Z RX5 cX5_day (4, none, [], false, rmm 6 0 0) (Γ, C, μ, ad, Q) (0) (0) (μ') 12 [some (vr 50 0), some (vi r), some (vi (nI k)), none] [] := by
    refine loopN (P := fun k => ∀ μ', RepM (getL true σ1 k) μ' → Dif SM μ μ' → Z RX5 cX5_day (4, none, [], false, rmm 6 0 0) (Γ, C, μ, ad, Q) (0) (0) (μ') 12 [some (vr 50 0), some (vi r), some (vi (nI k)), none] []) n ?_ ?_
    · intro μ' hR' hD'
      rw [← ed] at hR'
      have tD : SameTh σ (dawnF true σ) := by rw [ed]; exact t1.tr (th_getL true σ1 n)
      have hP' := hP.th tD
      have hM' : MOK μ' := hM.of hD'.1
      refine z_iload2 dX5_day_12 (z_aload0 dX5_day_13 (z_getIv fl_X5_412 dX5_day_14 rfl rfl (hR'.s34 2 (by decide)) (z_icmp_ge 55 dX5_day_17 (by decide) (fun _ => z_iconst (v := 0) dX5_day_55 (by decide) (z_istore2 dX5_day_56 (z_iconst (v := 0) dX5_day_57 (by decide) (z_istore3 dX5_day_58 ?_)))) (fun c => absurd (lpt hP'.1.1) c))))
      refine loopN (P := fun k => Z RX5 cX5_day (4, none, [], false, rmm 6 0 0) (Γ, C, μ, ad, Q) (0) (0) (μ') 59 [some (vr 50 0), some (vi r), some (vi (cntB (callB (dawnF true σ)) k)), some (vi (nI k))] []) n ?_ ?_ 0 (Nat.zero_le _)
      · have ec : callF (dawnF true σ) = cntB (callB (dawnF true σ)) n / 3 := by
          rw [callF, show tn (dawnF true σ 34 2) = n by rw [hP'.1.1, tn_nI (by omega)]]
        have s1 := hR'.set 7 2 (callF (dawnF true σ)) (show (2 : Nat) < 6 by decide) (by decide)
        have s2 := s1.d75 (v := gI μ' 50 0 75 + callF (dawnF true σ))
        have s3 := s2.set 7 3 0 (show (3 : Nat) < 6 by decide) (by decide)
        have e75 : gI μ' 50 0 75 = gI μ 50 0 75 := n75 hD'.W
        have dd : Dif SD μ (sI (sI (sI μ' 50 0 74 (callF (dawnF true σ))) 50 0 75 (gI μ' 50 0 75 + callF (dawnF true σ))) 50 0 76 0) := ((hD'.W.D.tr (difM (c := 7) (j := 2) (show (2 : Nat) < 6 by decide)).W.D).tr (Dif.sI (Or.inr ⟨rfl, rfl, rfl⟩))).tr (difM (c := 7) (j := 3) (show (3 : Nat) < 6 by decide)).W.D
        have m75 : gI (sI (sI (sI μ' 50 0 74 (callF (dawnF true σ))) 50 0 75 (gI μ' 50 0 75 + callF (dawnF true σ))) 50 0 76 0) 50 0 75 = gI μ 50 0 75 + callF (dawnF true σ) := by
          rw [gI_sI, if_neg (by simp), gI_sI, if_pos ⟨rfl, rfl, rfl⟩, e75]
        have bD : BR (dawnF true σ) := hB.th tD
        have b4 : dawnF true σ 7 4 = nI nb := by rw [ed, getL_7 true σ1 4 (by decide)]; exact hb
        let σ2 : Sg := up2 (up2 (dawnF true σ) 7 2 (callF (dawnF true σ))) 7 3 0
        have t2 : SameTh (dawnF true σ) σ2 := (SameTh.rf.up (by omega)).up (by omega)
        have l3 : ∀ k, k ≤ 4 → ∀ (μ2 : Mem) (v : Int32), RepM (worksL true σ2 r k) μ2 → gI μ2 50 0 75 = gI μ 50 0 75 + callF (dawnF true σ) → Dif SD μ μ2 → Z RX5 cX5_day (4, none, [], false, rmm 6 0 0) (Γ, C, μ, ad, Q) (0) (0) (μ2) 136 [some (vr 50 0), some (vi r), some (vi v), some (vi (nI k))] [] := by
          refine loopN (P := fun k => ∀ (μ2 : Mem) (v : Int32), RepM (worksL true σ2 r k) μ2 → gI μ2 50 0 75 = gI μ 50 0 75 + callF (dawnF true σ) → Dif SD μ μ2 → Z RX5 cX5_day (4, none, [], false, rmm 6 0 0) (Γ, C, μ, ad, Q) (0) (0) (μ2) 136 [some (vr 50 0), some (vi r), some (vi v), some (vi (nI k))] []) 4 ?_ ?_
          · intro μ2 v hR2 h75 hD2
            refine z_iload3 dX5_day_136 (z_iconst (v := 4) dX5_day_137 (by decide) (z_icmp_ge 153 dX5_day_138 (by decide) (fun _ => z_return dX5_day_153 rfl (by decide) (by decide) ?_) (fun c => absurd (lpt (n := 4) rfl) c)))
            exact h μ2 hR2 h75 hD2
          · intro k hk ih μ2 v hR2 h75 hD2
            have tk := t2.tr (th_worksL true σ2 r k)
            obtain ⟨nb', hb', hb3⟩ := worksL_74 true σ2 r (nb := nb) (by show up2 (up2 (dawnF true σ) 7 2 (callF (dawnF true σ))) 7 3 0 7 4 = nI nb; rw [up2_eq, if_neg (by simp), up2_eq, if_neg (by simp)]; exact b4) hb2 k (by omega)
            refine z_iload3 dX5_day_136 (z_iconst (v := 4) dX5_day_137 (by decide) (z_icmp_ge 153 dX5_day_138 (by decide) (fun c => absurd c (lpf (n := 4) rfl hk (by decide))) (fun _ => z_aload0 dX5_day_141 (z_iload3 dX5_day_142 (z_iload1 dX5_day_143 (z_invV2 (md_X5_works _) cv_X5_487 rfl dX5_day_144 rfl (by decide) (Rm.ofB rfl) (M_works (hM.of hD2.1) hR2 rfl hk (hP'.th tk) (bD.th tk) hb' hb3 (fun μ3 hR3 hD3 => ?_))))))))
            refine z_iinc3 dX5_day_147 (inc1 k) (z_goto 136 dX5_day_150 (by decide) ?_)
            exact ih μ3 v hR3 ((n75 hD3).trans h75) (hD2.tr hD3.D)
        refine z_iload3 dX5_day_59 (z_aload0 dX5_day_60 (z_getIv fl_X5_412 dX5_day_61 rfl rfl (hR'.s34 2 (by decide)) (z_icmp_ge 109 dX5_day_64 (by decide) (fun _ => ?_) (fun c => absurd (lpt hP'.1.1) c))))
        refine z_aload0 dX5_day_109 (z_iload2 dX5_day_110 (z_iconst (v := 3) dX5_day_111 (by decide) (z_idiv dX5_day_112 (by decide) (z_putI fl_X5_465 dX5_day_113 rfl rfl ⟨rfl, rfl⟩ (z_aload0 dX5_day_116 (z_dupa dX5_day_117 (z_getI fl_X5_484 dX5_day_118 rfl rfl (z_aload0 dX5_day_121 (z_getI fl_X5_465 dX5_day_122 rfl rfl (z_iadd dX5_day_125 (z_putI fl_X5_484 dX5_day_126 rfl rfl ⟨rfl, rfl⟩ (z_aload0 dX5_day_129 (z_iconst (v := 0) dX5_day_130 (by decide) (z_putI fl_X5_481 dX5_day_131 rfl rfl ⟨rfl, rfl⟩ (z_iconst (v := 0) dX5_day_134 (by decide) (z_istore3 dX5_day_135 ?_))))))))))))))))
        have e1 : gI (sI μ' 50 0 74 (cntB (callB (dawnF true σ)) n / 3)) 50 0 75 = gI μ' 50 0 75 := by rw [gI_sI, if_neg (by simp)]
        have e2 : gI (sI μ' 50 0 74 (cntB (callB (dawnF true σ)) n / 3)) 50 0 74 = cntB (callB (dawnF true σ)) n / 3 := by rw [gI_sI, if_pos ⟨rfl, rfl, rfl⟩]
        rw [e1, e2, ← ec]
        exact l3 0 (Nat.zero_le _) _ _ s3 m75 dd
      · intro k hk ih
        rw [cntB, callB] at ih
        have no : ¬ (dawnF true σ 0 k ≤ 5 ∧ dawnF true σ 34 4 < dawnF true σ 7 0 - dawnF true σ 14 k) → Z RX5 cX5_day (4, none, [], false, rmm 6 0 0) (Γ, C, μ, ad, Q) (0) (0) (μ') 100 [some (vr 50 0), some (vi r), some (vi (cntB (callB (dawnF true σ)) k)), some (vi (nI k))] [vi (cntB (callB (dawnF true σ)) k)] := by
          intro q
          rw [decide_eq_false q] at ih
          refine z_iconst (v := 0) dX5_day_100 (by decide) (z_iadd dX5_day_101 (z_istore2 dX5_day_102 (z_iinc3 dX5_day_103 (inc1 k) (z_goto 59 dX5_day_106 (by decide) ?_))))
          exact ih
        refine z_iload3 dX5_day_59 (z_aload0 dX5_day_60 (z_getIv fl_X5_412 dX5_day_61 rfl rfl (hR'.s34 2 (by decide)) (z_icmp_ge 109 dX5_day_64 (by decide) (fun c => absurd c (lpf hP'.1.1 hk (by omega))) (fun _ => z_iload2 dX5_day_67 (z_aload0 dX5_day_68 (z_iload3 dX5_day_69 (z_iconst (v := 0) dX5_day_70 (by decide) (z_invV2 (md_X5_now _) cv_X5_434 rfl dX5_day_71 rfl (by decide) (Rm.ofB rfl) (M_nowv (w := 0) hM' rfl rfl (by omega) (hR'.col 0 k (by decide)) (z_iconst (v := 5) dX5_day_74 (by decide) (z_icmp_gt 100 dX5_day_75 (by decide) (fun c_75 => ?_) (fun c_75 => ?_))))))))))))
        · exact no fun q => absurd q.1 (Int32.not_le.mpr c_75)
        · refine z_aload0 dX5_day_78 (z_getIv fl_X5_314 dX5_day_79 rfl rfl (hR'.s7 0 (by decide)) (z_aload0 dX5_day_82 (z_getP (v := some (106, 0)) fl_X5_118 dX5_day_83 rfl rfl (hM' 55 rfl) (z_iload3 dX5_day_86 (z_ialdv dX5_day_87 rfl ⟨rfl, (show k < 120 by omega), Nat.le_of_ble_eq_true rfl⟩ (hR'.col 14 _ (by decide)) (z_isub dX5_day_88 (z_aload0 dX5_day_89 (z_getIv fl_X5_76 dX5_day_90 rfl rfl (hR'.s34 4 (by decide)) (z_icmp_le 100 dX5_day_93 (by decide) (fun c_93 => ?_) (fun c_93 => ?_))))))))))
          · exact no fun q => absurd q.2 (Int32.not_lt.mpr c_93)
          · rw [decide_eq_true ⟨Int32.not_lt.mp c_75, Int32.not_le.mp c_93⟩] at ih
            refine z_iconst (v := 1) dX5_day_96 (by decide) (z_goto 101 dX5_day_97 (by decide) (z_iadd dX5_day_101 (z_istore2 dX5_day_102 (z_iinc3 dX5_day_103 (inc1 k) (z_goto 59 dX5_day_106 (by decide) ?_)))))
            exact ih
    · intro k hk ih μ' hR' hD'
      have hM' : MOK μ' := hM.of hD'.1
      have e7 : getL true σ1 k 7 0 = σ1 7 0 := getL_7 true σ1 0 (by decide) k
      have e34 : getL true σ1 k 34 2 = nI n := (th_getL true σ1 k 34 2 (by omega)).trans ((t1 34 2 (by omega)).trans hP.1.1)
      rw [getL] at ih
      have no : ¬ (getL true σ1 k 0 k = 6 ∧ getL true σ1 k 4 k ≤ σ1 7 0) → Z RX5 cX5_day (4, none, [], false, rmm 6 0 0) (Γ, C, μ, ad, Q) (0) (0) (μ') 49 [some (vr 50 0), some (vi r), some (vi (nI k)), none] [] := by
        intro q
        rw [if_neg q] at ih
        refine z_iinc2 dX5_day_49 (inc1 k) (z_goto 12 dX5_day_52 (by decide) ?_)
        exact ih μ' hR' hD'
      refine z_iload2 dX5_day_12 (z_aload0 dX5_day_13 (z_getIv fl_X5_412 dX5_day_14 rfl rfl (hR'.s34 2 (by decide)) (z_icmp_ge 55 dX5_day_17 (by decide) (fun c => absurd c (lpf e34 hk (by omega))) (fun _ => z_aload0 dX5_day_20 (z_iload2 dX5_day_21 (z_iconst (v := 0) dX5_day_22 (by decide) (z_invV2 (md_X5_now _) cv_X5_434 rfl dX5_day_23 rfl (by decide) (Rm.ofB rfl) (M_nowv (w := 0) hM' rfl rfl (by omega) (hR'.col 0 k (by decide)) (z_bipush (v := 6) dX5_day_26 (by decide) (z_icmp_ne 49 dX5_day_28 (by decide) (fun c_28 => ?_) (fun c_28 => ?_)))))))))))
      · exact no fun q => c_28 q.1
      · refine z_aload0 dX5_day_31 (z_iload2 dX5_day_32 (z_iconst (v := 4) dX5_day_33 (by decide) (z_invV2 (md_X5_now _) cv_X5_434 rfl dX5_day_34 rfl (by decide) (Rm.ofB rfl) (M_nowv (w := 4) hM' rfl rfl (by omega) (hR'.col 4 k (by decide)) (z_aload0 dX5_day_37 (z_getIv fl_X5_314 dX5_day_38 rfl rfl (hR'.s7 0 (by decide)) (z_icmp_gt 49 dX5_day_41 (by decide) (fun c_41 => ?_) (fun c_41 => ?_))))))))
        · rw [e7] at c_41
          exact no fun q => absurd q.2 (Int32.not_le.mpr c_41)
        · rw [e7] at c_41
          rw [if_pos ⟨c_28, Int32.not_lt.mp c_41⟩] at ih
          refine z_aload0 dX5_day_44 (z_iload2 dX5_day_45 (z_invV1 (md_X5_gets _) cv_X5_459 rfl dX5_day_46 rfl (by decide) (Rm.ofB rfl) (M_gets hM' hR' rfl (by omega) (fun μ2 hR2 hD2 => ?_))))
          refine z_iinc2 dX5_day_49 (inc1 k) (z_goto 12 dX5_day_52 (by decide) ?_)
          exact ih μ2 hR2 (hD'.tr hD2)
  exact l1 0 (Nat.zero_le _) _ hR1 hD1
end M5
