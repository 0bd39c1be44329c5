/-! Model: clauses, laws -/
section M17
variable {μ μ' : Mem} {Q : Res → Mem → Prop} {T : Nat → Int32} {e a : Nat}
def SCl (n s : Nat) : Nat → Nat → Nat → Prop := fun p i k => SQ s p i k ∨ (i = 0 ∧ (p = 63 ∨ p = 64 ∨ p = 65 ∨ p = 66) ∧ k = 192 + n)
theorem nSCl {n s : Nat} : ¬ SCl n s 50 0 5 ∧ ∀ j, ¬ SCl n s 53 0 j := ⟨fun q => by
  rcases q with q | q
  · have := q.2; omega
  · have := q.2.1; omega, fun j q => by
  rcases q with q | q
  · have := q.2; omega
  · have := q.2.1; omega⟩
def clD (μ : Mem) (n s : Nat) (c : Cl3) : Prop := gI μ 63 0 (192 + n) = c.1 ∧ (c.1 ≠ 4 → gI μ 64 0 (192 + n) = c.2.1) ∧ gI μ 65 0 (192 + n) = nI s ∧ gI μ 66 0 (192 + n) = nI (s + c.2.2.length)
def CRES (T : Nat → Int32) (e : Nat) (μ : Mem) (n s : Nat) (Q : Res → Mem → Prop) (r : Nat ⊕ (Nat × Cl3)) : Prop := match r with
  | .inl x => ∀ μ', Dif (SCl n s) μ μ' → gI μ' 50 0 6 = nI x → Q (rI 0) μ'
  | .inr q => ∀ μ', Dif (SCl n s) μ μ' → RD T e q.1 μ' → gI μ' 50 0 20 = nI (s + q.2.2.2.length) → stp μ' s q.2.2.2 → clD μ' n s q.2 → Q (rI 1) μ'
theorem strB_cl : strB[47]? = some wNeed ∧ strB[48]? = some wFee ∧ strB[49]? = some wYears ∧ strB[50]? = some wRisk ∧ strB[51]? = some wSee ∧ strB[52]? = some wBack ∧ strB[53]? = some wIf := by decide +kernel
theorem RD.sI {p k : Nat} {v : Int32} (h : RD T e a μ) (hp : p ≠ 50 ∧ p ≠ 53) : RD T e a (sI μ p 0 k v) :=
  h.dif (Dif.sI (S := fun q _ _ => q = p) rfl) (by rw [gI_sI, if_neg (fun q => hp.1 q.1.symm)]; exact h.2.2.1.1) h.2.2.1.2 ⟨fun q => hp.1 q.symm, fun j q => hp.2 q.symm⟩
set_option maxRecDepth 8000 in
set_option maxHeartbeats 1000000 in
theorem M_readClause {n s : Nat} (hr : RD T e a μ) (h20 : gI μ 50 0 20 = nI s) (hs : s ≤ a) (hn : n ≤ 16) (h : CRES T e μ n s Q (if n = 16 then .inl (skB T e a) else clsP T e a)) : Ct RX5 cX5_readClause (4, some .boolean, [], false, rmm 36 0 0) [vr 50 0, vi (nI n)] μ Q := by
  refine Ct.of (ls := [some (vr 50 0), some (vi (nI n)), none, none]) rfl fun Γ C ad => ?_
  have b1 := skB_ge T e a
  have b2 : skB T e a ≤ e := skE_le hr.2.2.1.2
  have w1 := wdE_ge T e (skB T e a)
  have w2 : wdE T e (skB T e a) ≤ e := skE_le b2
  have e400 := hr.2.1.2
  obtain ⟨s47, s48, s49, s50, s51, s52, s53⟩ := strB_cl
  refine z_aload0 dX5_readClause_0 (z_invV0 (md_X5_word _) cv_X5_210 rfl dX5_readClause_1 rfl (Nat.le_of_ble_eq_true rfl) (Rm.ofB rfl) (M_word hr (fun μ1 hr1 hb1 hD1 => ?_)))
  have hD1' : Dif (SCl n s) μ μ1 := hD1.mono fun _ _ _ q => Or.inl (SR_SQ q)
  by_cases h16 : n = 16
  · rw [if_pos h16] at h
    refine z_iload1 dX5_readClause_4 (z_bipush (v := 16) dX5_readClause_5 (by decide) (z_icmp_ne 12 dX5_readClause_7 (by decide) (fun c => absurd ((by rw [h16]; rfl)) c) (fun _ => z_iconst (v := 0) dX5_readClause_10 (by decide) (z_zreturn dX5_readClause_11 rfl rfl (Nat.le_of_ble_eq_true rfl) (Nat.le_of_ble_eq_true rfl) ?_))))
    exact h μ1 hD1' hb1
  · rw [if_neg h16] at h
    have ek : (192 : Int32) + nI n = nI (192 + n) := by rw [show (192 : Int32) = nI 192 from rfl, nI_add]
    have ik : 192 + n < 208 := by omega
    refine z_iload1 dX5_readClause_4 (z_bipush (v := 16) dX5_readClause_5 (by decide) (z_icmp_ne 12 dX5_readClause_7 (by decide) (fun _ => ?_) (fun c => absurd c ((fun z => h16 ((nI_eq (b := 16) (by omega) (by decide)).mp z))))))
    unfold clsP cNum at h
    generalize hsrt : srtF T (skB T e a) (wdE T e (skB T e a)) = v at *
    -- behind the number
    have j209 : ∀ (p : Nat) (num : Int32) (μ3 : Mem) (o : Option AV), p ≤ e → skB T e a ≤ p → RD T e p μ3 → Dif (SCl n s) μ μ3 → gI μ3 50 0 20 = nI s → gI μ3 63 0 (192 + n) = v → (v ≠ 4 → gI μ3 64 0 (192 + n) = num) →
        CRES T e μ n s Q (if isW T (skB T e p) (wdE T e (skB T e p)) wIf then (match prs T e 2100 2 0 (wdE T e (skB T e p)) with | .inl x => .inl x | .inr q' => .inr (q'.1, (v, num, q'.2))) else .inr (skB T e p, (v, num, []))) →
        Z RX5 cX5_readClause (4, some .boolean, [], false, rmm 36 0 0) (Γ, C, μ, ad, Q) 0 0 μ3 209 [some (vr 50 0), some (vi (nI n)), some (vi (nI (192 + n))), o] [] := by
      intro p num μ3 o hpe hap hr3 hD3 h3s h63 h64 hP
      have p1 := skB_ge T e p
      have p2 : skB T e p ≤ e := skE_le hpe
      have q1 := wdE_ge T e (skB T e p)
      have q2 : wdE T e (skB T e p) ≤ e := skE_le p2
      have hM3 := hr3.1
      have hr4 : RD T e p (sI μ3 65 0 (192 + n) (gI μ3 50 0 20)) := hr3.sI (by decide)
      have hD4 : Dif (SCl n s) μ (sI μ3 65 0 (192 + n) (gI μ3 50 0 20)) := hD3.tr (Dif.sI (Or.inr ⟨rfl, by omega, rfl⟩))
      refine z_aload0 dX5_readClause_209 (z_getP (v := some (65, 0)) fl_X5_33 dX5_readClause_210 rfl rfl (hM3 14 rfl) (z_iload2 dX5_readClause_213 (z_aload0 dX5_readClause_214 (z_getI fl_X5_217 dX5_readClause_215 rfl rfl (z_iast dX5_readClause_218 rfl ⟨rfl, ik, Nat.le_of_ble_eq_true rfl⟩ (z_aload0 dX5_readClause_219 (z_ldcSw 53 rfl dX5_readClause_220 (z_invV1 (md_X5_passes _) cv_X5_267 rfl dX5_readClause_223 rfl (Nat.le_of_ble_eq_true rfl) (Rm.ofB rfl) (M_passes s53 hr4 (fun μ5 hr5 hb5 hD5 => ?_))))))))))
      have hD5' : Dif (SCl n s) μ μ5 := hD4.tr (hD5.mono fun _ _ _ q => Or.inl (SR_SQ q))
      have keep5 : ∀ p k, (p = 63 ∨ p = 64 ∨ p = 65 ∨ p = 66) → gI μ5 p 0 k = gI (sI μ3 65 0 (192 + n) (gI μ3 50 0 20)) p 0 k := fun p k hp => hD5.2 _ _ _ fun q => by have := q.1; omega
      have n20 : gI μ5 50 0 20 = nI s := (k20 hD5).trans (by rw [gI_sI, if_neg (by simp)]; exact h3s)
      have k63 : gI μ5 63 0 (192 + n) = v := (keep5 63 _ (by omega)).trans (by rw [gI_sI, if_neg (by simp)]; exact h63)
      have k64 : v ≠ 4 → gI μ5 64 0 (192 + n) = num := fun q => (keep5 64 _ (by omega)).trans (by rw [gI_sI, if_neg (by simp)]; exact h64 q)
      have k65 : gI μ5 65 0 (192 + n) = nI s := (keep5 65 _ (by omega)).trans (by rw [gI_sI, if_pos ⟨rfl, rfl, rfl⟩]; exact h3s)
      -- the end
      have fin : ∀ (q : Nat) (st : List Sp3) (μ6 : Mem), RD T e q μ6 → Dif (SCl n s) μ μ6 → gI μ6 50 0 20 = nI (s + st.length) → stp μ6 s st → gI μ6 63 0 (192 + n) = v → (v ≠ 4 → gI μ6 64 0 (192 + n) = num) → gI μ6 65 0 (192 + n) = nI s → CRES T e μ n s Q (.inr (q, (v, num, st))) →
          Z RX5 cX5_readClause (4, some .boolean, [], false, rmm 36 0 0) (Γ, C, μ, ad, Q) 0 0 μ6 243 [some (vr 50 0), some (vi (nI n)), some (vi (nI (192 + n))), o] [] := by
        intro q st μ6 hr6 hD6 h6s hst6 g63 g64 g65 hR6
        have hM6 := hr6.1
        refine z_aload0 dX5_readClause_243 (z_getP (v := some (66, 0)) fl_X5_36 dX5_readClause_244 rfl rfl (hM6 15 rfl) (z_iload2 dX5_readClause_247 (z_aload0 dX5_readClause_248 (z_getI fl_X5_217 dX5_readClause_249 rfl rfl (z_iast dX5_readClause_252 rfl ⟨rfl, ik, Nat.le_of_ble_eq_true rfl⟩ (z_iconst (v := 1) dX5_readClause_253 (by decide) (z_zreturn dX5_readClause_254 rfl rfl (Nat.le_of_ble_eq_true rfl) (Nat.le_of_ble_eq_true rfl) ?_)))))))
        refine hR6 _ (hD6.tr (Dif.sI (Or.inr ⟨rfl, by omega, rfl⟩))) (hr6.sI (by decide)) (by rw [gI_sI, if_neg (by simp)]; exact h6s) (fun j hj => ?_) ⟨?_, fun q4 => ?_, ?_, ?_⟩
        · rw [gI_sI, if_neg (by simp), gI_sI, if_neg (by simp), gI_sI, if_neg (by simp)]; exact hst6 j hj
        · rw [gI_sI, if_neg (by simp)]; exact g63
        · rw [gI_sI, if_neg (by simp)]; exact g64 q4
        · rw [gI_sI, if_neg (by simp)]; exact g65
        · rw [gI_sI, if_pos ⟨rfl, rfl, rfl⟩]; exact h6s
      cases hw : isW T (skB T e p) (wdE T e (skB T e p)) wIf with
      | false =>
        rw [hw, if_neg (by decide)] at hP hr5
        refine z_if_eq 243 dX5_readClause_226 (by decide) (fun _ => ?_) (fun c => absurd (rfl) c)
        exact fin _ [] μ5 hr5 hD5' n20 stp.nil k63 k64 k65 hP
      | true =>
        rw [hw, if_pos rfl] at hP hr5
        have hr6 : RD T e (wdE T e (skB T e p)) (sI μ5 50 0 7 0) := hr5.dif (Dif.sI (S := SQ s) SQ7) (by rw [gI_sI, if_neg (by simp)]; exact hr5.2.2.1.1) q2 nSQ
        have z7 : gI (sI μ5 50 0 7 0) 50 0 7 = nI 0 := by rw [gI_sI, if_pos ⟨rfl, rfl, rfl⟩]; rfl
        have z20 : gI (sI μ5 50 0 7 0) 50 0 20 = nI s := by rw [gI_sI, if_neg (by simp)]; exact n20
        have hD6 : Dif (SCl n s) μ (sI μ5 50 0 7 0) := hD5'.tr (Dif.sI (Or.inl SQ7))
        have PCx := (M_parse (T := T) (e := e) 2100).2.2 2100 (Nat.le_refl _)
        cases hc : prs T e 2100 2 0 (wdE T e (skB T e p)) with
        | inl x =>
          rw [hc] at hP
          refine z_if_eq 243 dX5_readClause_226 (by decide) (fun c => absurd c (n10)) (fun _ => z_aload0 dX5_readClause_229 (z_iconst (v := 0) dX5_readClause_230 (by decide) (z_putI fl_X5_258 dX5_readClause_231 rfl rfl ⟨rfl, rfl⟩ (z_aload0 dX5_readClause_234 (z_invV0 (md_X5_readCond _) cv_X5_261 rfl dX5_readClause_235 rfl (Nat.le_of_ble_eq_true rfl) (Rm.ofB rfl) (PCx 0 (wdE T e (skB T e p)) s 35 _ _ (by omega) (by omega) (by omega) hr6 z7 z20 (by omega) (PRES.l hc fun μ7 hD7 hx7 => ?_)))))))
          refine z_if_ne 243 dX5_readClause_238 (by decide) (fun c => absurd (rfl) c) (fun _ => z_iconst (v := 0) dX5_readClause_241 (by decide) (z_zreturn dX5_readClause_242 rfl rfl (Nat.le_of_ble_eq_true rfl) (Nat.le_of_ble_eq_true rfl) ?_))
          exact hP μ7 (hD6.tr (hD7.mono fun _ _ _ q => Or.inl q)) hx7
        | inr r =>
          rw [hc] at hP
          refine z_if_eq 243 dX5_readClause_226 (by decide) (fun c => absurd c (n10)) (fun _ => z_aload0 dX5_readClause_229 (z_iconst (v := 0) dX5_readClause_230 (by decide) (z_putI fl_X5_258 dX5_readClause_231 rfl rfl ⟨rfl, rfl⟩ (z_aload0 dX5_readClause_234 (z_invV0 (md_X5_readCond _) cv_X5_261 rfl dX5_readClause_235 rfl (Nat.le_of_ble_eq_true rfl) (Rm.ofB rfl) (PCx 0 (wdE T e (skB T e p)) s 35 _ _ (by omega) (by omega) (by omega) hr6 z7 z20 (by omega) (PRES.r hc fun μ7 hD7 hr7 h77 h207 hst7 => ?_)))))))
          refine z_if_ne 243 dX5_readClause_238 (by decide) (fun _ => ?_) (fun c => absurd c (n10))
          have keep7 : ∀ p k, (p = 63 ∨ p = 64 ∨ p = 65 ∨ p = 66) → gI μ7 p 0 k = gI μ5 p 0 k := fun p k hp => (hD7.2 _ _ _ fun q => by have := q.2; omega).trans (by rw [gI_sI, if_neg (fun q => by have := q.1; omega)])
          exact fin r.1 r.2 μ7 hr7 (hD6.tr (hD7.mono fun _ _ _ q => Or.inl q)) h207 hst7 ((keep7 63 _ (by omega)).trans k63) (fun q => (keep7 64 _ (by omega)).trans (k64 q)) ((keep7 65 _ (by omega)).trans k65) hP
    -- behind the word
    have hM1 := hr1.1
    have j108 : Z RX5 cX5_readClause (4, some .boolean, [], false, rmm 36 0 0) (Γ, C, μ, ad, Q) 0 0 μ1 108 [some (vr 50 0), some (vi (nI n)), some (vi (nI (192 + n))), none] [vi v, vi (nI (192 + n)), vr 63 0] := by
      have hr2 : RD T e (wdE T e (skB T e a)) (sI μ1 63 0 (192 + n) v) := hr1.sI (by decide)
      have hM2 := hr2.1
      have hD2 : Dif (SCl n s) μ (sI μ1 63 0 (192 + n) v) := hD1'.tr (Dif.sI (Or.inr ⟨rfl, by omega, rfl⟩))
      have n20 : gI (sI μ1 63 0 (192 + n) v) 50 0 20 = nI s := by rw [gI_sI, if_neg (by simp)]; exact (k20 hD1).trans h20
      have n6 : gI (sI μ1 63 0 (192 + n) v) 50 0 6 = nI (skB T e a) := by rw [gI_sI, if_neg (by simp)]; exact hb1
      have ev : gI (sI μ1 63 0 (192 + n) v) 63 0 (192 + n) = v := by rw [gI_sI, if_pos ⟨rfl, rfl, rfl⟩]
      by_cases qn : v < 0
      · rw [if_pos qn] at h
        refine z_iast dX5_readClause_108 rfl ⟨rfl, ik, Nat.le_of_ble_eq_true rfl⟩ (z_aload0 dX5_readClause_109 (z_getP (v := some (63, 0)) fl_X5_27 dX5_readClause_110 rfl rfl (hM1 12 rfl) (z_iload2 dX5_readClause_113 (z_ialdv dX5_readClause_114 rfl ⟨rfl, ik, Nat.le_of_ble_eq_true rfl⟩ (ev) (z_if_ge 120 dX5_readClause_115 (by decide) (fun c => absurd c (Int32.not_le.mpr qn)) (fun _ => z_iconst (v := 0) dX5_readClause_118 (by decide) (z_zreturn dX5_readClause_119 rfl rfl (Nat.le_of_ble_eq_true rfl) (Nat.le_of_ble_eq_true rfl) ?_)))))))
        exact h _ hD2 n6
      · rw [if_neg qn] at h
        by_cases q0 : v = 0
        · rw [if_pos q0] at h
          generalize hp0 : skB T e (wdE T e (skB T e a)) = p0 at *
          have c1 : wdE T e (skB T e a) ≤ p0 := by rw [← hp0]; exact skB_ge _ _ _
          have c2 : p0 ≤ e := by rw [← hp0]; exact skE_le w2
          have c3 := wdE_ge T e p0
          have c4 : wdE T e p0 ≤ e := skE_le c2
          refine z_iast dX5_readClause_108 rfl ⟨rfl, ik, Nat.le_of_ble_eq_true rfl⟩ (z_aload0 dX5_readClause_109 (z_getP (v := some (63, 0)) fl_X5_27 dX5_readClause_110 rfl rfl (hM1 12 rfl) (z_iload2 dX5_readClause_113 (z_ialdv dX5_readClause_114 rfl ⟨rfl, ik, Nat.le_of_ble_eq_true rfl⟩ (ev) (z_if_ge 120 dX5_readClause_115 (by decide) (fun _ => z_aload0 dX5_readClause_120 (z_getP (v := some (63, 0)) fl_X5_27 dX5_readClause_121 rfl rfl (hM1 12 rfl) (z_iload2 dX5_readClause_124 (z_ialdv dX5_readClause_125 rfl ⟨rfl, ik, Nat.le_of_ble_eq_true rfl⟩ (ev) (z_if_ne 178 dX5_readClause_126 (by decide) (fun c => absurd (q0) c) (fun _ => z_aload0 dX5_readClause_129 (z_invV0 (md_X5_word _) cv_X5_210 rfl dX5_readClause_130 rfl (Nat.le_of_ble_eq_true rfl) (Rm.ofB rfl) (M_word hr2 (fun μ3 hr3 hb3 hD3 => ?_))))))))) (fun c => absurd (Int32.not_lt.mp qn) c))))))
          rw [hp0] at hr3 hb3
          have hD3' : Dif (SCl n s) μ μ3 := hD2.tr (hD3.mono fun _ _ _ q => Or.inl (SR_SQ q))
          generalize hf : fstW T p0 (wdE T e p0) wItem = f at *
          have hf8 : f ≤ 8 := by rw [← hf]; exact fstW_le _ _ _
          have len8 : wItem.length = 8 := rfl
          have hM3 := hr3.1
          have found : Z RX5 cX5_readClause (4, some .boolean, [], false, rmm 36 0 0) (Γ, C, μ, ad, Q) 0 0 μ3 158 [some (vr 50 0), some (vi (nI n)), some (vi (nI (192 + n))), some (vi (nI f))] [] := by
            by_cases q8 : f = 8
            · rw [if_pos q8] at h
              refine z_iload3 dX5_readClause_158 (z_bipush (v := 8) dX5_readClause_159 (by decide) (z_icmp_ne 166 dX5_readClause_161 (by decide) (fun c => absurd ((by rw [q8]; rfl)) c) (fun _ => z_iconst (v := 0) dX5_readClause_164 (by decide) (z_zreturn dX5_readClause_165 rfl rfl (Nat.le_of_ble_eq_true rfl) (Nat.le_of_ble_eq_true rfl) ?_))))
              exact h μ3 hD3' hb3
            · rw [if_neg q8] at h
              refine z_iload3 dX5_readClause_158 (z_bipush (v := 8) dX5_readClause_159 (by decide) (z_icmp_ne 166 dX5_readClause_161 (by decide) (fun _ => z_aload0 dX5_readClause_166 (z_getP (v := some (64, 0)) fl_X5_30 dX5_readClause_167 rfl rfl (hM3 13 rfl) (z_iload2 dX5_readClause_170 (z_iconst (v := 1) dX5_readClause_171 (by decide) (z_iload3 dX5_readClause_172 (z_ishl dX5_readClause_173 (z_iast dX5_readClause_174 rfl ⟨rfl, ik, Nat.le_of_ble_eq_true rfl⟩ (z_goto 209 dX5_readClause_175 (by decide) ?_)))))))) (fun c => absurd c ((fun z => q8 ((nI_eq (b := 8) (by omega) (by decide)).mp z))))))
              refine j209 _ _ _ _ c4 (by omega) (hr3.sI (by decide)) (hD3'.tr (Dif.sI (Or.inr ⟨rfl, by omega, rfl⟩))) (by rw [gI_sI, if_neg (by simp)]; exact (k20 hD3).trans n20) ?_ (fun _ => by rw [gI_sI, if_pos ⟨rfl, rfl, rfl⟩]) h
              rw [gI_sI, if_neg (by simp), hD3.2 _ _ _ (fun q => by have := q.1; omega)]
              exact ev
          refine z_iconst (v := 0) dX5_readClause_133 (by decide) (z_istore3 dX5_readClause_134 ?_)
          have lp : ∀ k, k ≤ f → Z RX5 cX5_readClause (4, some .boolean, [], false, rmm 36 0 0) (Γ, C, μ, ad, Q) 0 0 μ3 135 [some (vr 50 0), some (vi (nI n)), some (vi (nI (192 + n))), some (vi (nI k))] [] := by
            refine loopN (P := fun k => Z RX5 cX5_readClause (4, some .boolean, [], false, rmm 36 0 0) (Γ, C, μ, ad, Q) 0 0 μ3 135 [some (vr 50 0), some (vi (nI n)), some (vi (nI (192 + n))), some (vi (nI k))] []) f ?_ ?_
            · by_cases q8 : f = 8
              · refine z_iload3 dX5_readClause_135 (z_bipush (v := 8) dX5_readClause_136 (by decide) (z_icmp_ge 158 dX5_readClause_138 (by decide) (fun _ => ?_) (fun c => absurd ((by rw [q8]; exact Int32.le_refl _)) c)))
                exact found
              · have hw := fstW_is (T := T) p0 (wdE T e p0) wItem (by omega)
                rw [hf] at hw
                refine z_iload3 dX5_readClause_135 (z_bipush (v := 8) dX5_readClause_136 (by decide) (z_icmp_ge 158 dX5_readClause_138 (by decide) (fun c => absurd c (nI_ge (b := 8) (by omega) (by decide))) (fun _ => z_aload0 dX5_readClause_141 (z_iload3 dX5_readClause_142 (z_invS1 (md_X5_item _) cs_X5_303 dX5_readClause_143 rfl (Nat.le_of_ble_eq_true rfl) (Rm.ofB rfl) (M_item (by omega) (z_invV1 (md_X5_isWord _) cv_X5_213 rfl dX5_readClause_146 rfl (Nat.le_of_ble_eq_true rfl) (Rm.ofB rfl) (M_isWord (strB_i f (by omega)) hr3 hb3 c3 (z_if_ne 158 dX5_readClause_149 (by decide) (fun _ => ?_) (fun c => absurd c ((by rw [hw]; exact n10))))))))))))
                exact found
            · intro k hk ih
              have hw := fstW_no (T := T) p0 (wdE T e p0) wItem k (by omega)
              refine z_iload3 dX5_readClause_135 (z_bipush (v := 8) dX5_readClause_136 (by decide) (z_icmp_ge 158 dX5_readClause_138 (by decide) (fun c => absurd c (nI_ge (b := 8) (by omega) (by decide))) (fun _ => z_aload0 dX5_readClause_141 (z_iload3 dX5_readClause_142 (z_invS1 (md_X5_item _) cs_X5_303 dX5_readClause_143 rfl (Nat.le_of_ble_eq_true rfl) (Rm.ofB rfl) (M_item (by omega) (z_invV1 (md_X5_isWord _) cv_X5_213 rfl dX5_readClause_146 rfl (Nat.le_of_ble_eq_true rfl) (Rm.ofB rfl) (M_isWord (strB_i k (by omega)) hr3 hb3 c3 (z_if_ne 158 dX5_readClause_149 (by decide) (fun c => absurd ((by rw [hw]; rfl)) c) (fun _ => z_iinc3 dX5_readClause_152 (inc1 k) (z_goto 135 dX5_readClause_155 (by decide) ?_)))))))))))
              exact ih
          exact lp 0 (Nat.zero_le _)
        · rw [if_neg q0] at h
          by_cases q4 : v = 4
          · rw [if_pos q4] at h
            refine z_iast dX5_readClause_108 rfl ⟨rfl, ik, Nat.le_of_ble_eq_true rfl⟩ (z_aload0 dX5_readClause_109 (z_getP (v := some (63, 0)) fl_X5_27 dX5_readClause_110 rfl rfl (hM1 12 rfl) (z_iload2 dX5_readClause_113 (z_ialdv dX5_readClause_114 rfl ⟨rfl, ik, Nat.le_of_ble_eq_true rfl⟩ (ev) (z_if_ge 120 dX5_readClause_115 (by decide) (fun _ => z_aload0 dX5_readClause_120 (z_getP (v := some (63, 0)) fl_X5_27 dX5_readClause_121 rfl rfl (hM1 12 rfl) (z_iload2 dX5_readClause_124 (z_ialdv dX5_readClause_125 rfl ⟨rfl, ik, Nat.le_of_ble_eq_true rfl⟩ (ev) (z_if_ne 178 dX5_readClause_126 (by decide) (fun _ => z_aload0 dX5_readClause_178 (z_getP (v := some (63, 0)) fl_X5_27 dX5_readClause_179 rfl rfl (hM1 12 rfl) (z_iload2 dX5_readClause_182 (z_ialdv dX5_readClause_183 rfl ⟨rfl, ik, Nat.le_of_ble_eq_true rfl⟩ (ev) (z_iconst (v := 4) dX5_readClause_184 (by decide) (z_icmp_eq 209 dX5_readClause_185 (by decide) (fun _ => ?_) (fun c => absurd (q4) c))))))) (fun c => absurd c (q0))))))) (fun c => absurd (Int32.not_lt.mp qn) c))))))
            exact j209 _ _ _ _ w2 w1 hr2 hD2 n20 ev (fun z => absurd q4 z) h
          · rw [if_neg q4] at h
            refine z_iast dX5_readClause_108 rfl ⟨rfl, ik, Nat.le_of_ble_eq_true rfl⟩ (z_aload0 dX5_readClause_109 (z_getP (v := some (63, 0)) fl_X5_27 dX5_readClause_110 rfl rfl (hM1 12 rfl) (z_iload2 dX5_readClause_113 (z_ialdv dX5_readClause_114 rfl ⟨rfl, ik, Nat.le_of_ble_eq_true rfl⟩ (ev) (z_if_ge 120 dX5_readClause_115 (by decide) (fun _ => z_aload0 dX5_readClause_120 (z_getP (v := some (63, 0)) fl_X5_27 dX5_readClause_121 rfl rfl (hM1 12 rfl) (z_iload2 dX5_readClause_124 (z_ialdv dX5_readClause_125 rfl ⟨rfl, ik, Nat.le_of_ble_eq_true rfl⟩ (ev) (z_if_ne 178 dX5_readClause_126 (by decide) (fun _ => z_aload0 dX5_readClause_178 (z_getP (v := some (63, 0)) fl_X5_27 dX5_readClause_179 rfl rfl (hM1 12 rfl) (z_iload2 dX5_readClause_182 (z_ialdv dX5_readClause_183 rfl ⟨rfl, ik, Nat.le_of_ble_eq_true rfl⟩ (ev) (z_iconst (v := 4) dX5_readClause_184 (by decide) (z_icmp_eq 209 dX5_readClause_185 (by decide) (fun c => absurd c (q4)) (fun _ => z_aload0 dX5_readClause_188 (z_getP (v := some (64, 0)) fl_X5_30 dX5_readClause_189 rfl rfl (hM1 13 rfl) (z_iload2 dX5_readClause_192 (z_aload0 dX5_readClause_193 (z_invV0 (md_X5_number _) cv_X5_281 rfl dX5_readClause_194 rfl (Nat.le_of_ble_eq_true rfl) (Rm.ofB rfl) (M_number hr2 (fun μ3 hr3 hb3 hD3 => ?_))))))))))))) (fun c => absurd c (q0))))))) (fun c => absurd (Int32.not_lt.mp qn) c))))))
            have hM3 := hr3.1
            have hD3' : Dif (SCl n s) μ μ3 := hD2.tr (hD3.mono fun _ _ _ q => Or.inl (SR_SQ q))
            have n20' := (k20 hD3).trans n20
            unfold numP at h
            by_cases qq : dgE T e (skB T e (wdE T e (skB T e a))) = skB T e (wdE T e (skB T e a)) ∨ 4 < dgE T e (skB T e (wdE T e (skB T e a))) - skB T e (wdE T e (skB T e a))
            · rw [if_pos qq] at h ⊢
              refine z_iast dX5_readClause_197 rfl ⟨rfl, ik, Nat.le_of_ble_eq_true rfl⟩ (z_aload0 dX5_readClause_198 (z_getP (v := some (64, 0)) fl_X5_30 dX5_readClause_199 rfl rfl (hM3 13 rfl) (z_iload2 dX5_readClause_202 (z_ialdv dX5_readClause_203 rfl ⟨rfl, ik, Nat.le_of_ble_eq_true rfl⟩ ((by rw [gI_sI, if_pos ⟨rfl, rfl, rfl⟩])) (z_if_ge 209 dX5_readClause_204 (by decide) (fun c => absurd c ((by decide))) (fun _ => z_iconst (v := 0) dX5_readClause_207 (by decide) (z_zreturn dX5_readClause_208 rfl rfl (Nat.le_of_ble_eq_true rfl) (Nat.le_of_ble_eq_true rfl) ?_)))))))
              exact h _ (hD3'.tr (Dif.sI (Or.inr ⟨rfl, by omega, rfl⟩))) (by rw [gI_sI, if_neg (by simp)]; exact hb3)
            · have hnum : numP T e (wdE T e (skB T e a)) = .inr (dgE T e (skB T e (wdE T e (skB T e a))), numV T (skB T e (wdE T e (skB T e a))) (dgE T e (skB T e (wdE T e (skB T e a))) - skB T e (wdE T e (skB T e a)))) := by unfold numP; rw [if_neg qq]
              have hk := numP_ok w2 hnum
              rw [if_neg qq] at h ⊢
              refine z_iast dX5_readClause_197 rfl ⟨rfl, ik, Nat.le_of_ble_eq_true rfl⟩ (z_aload0 dX5_readClause_198 (z_getP (v := some (64, 0)) fl_X5_30 dX5_readClause_199 rfl rfl (hM3 13 rfl) (z_iload2 dX5_readClause_202 (z_ialdv dX5_readClause_203 rfl ⟨rfl, ik, Nat.le_of_ble_eq_true rfl⟩ ((by rw [gI_sI, if_pos ⟨rfl, rfl, rfl⟩])) (z_if_ge 209 dX5_readClause_204 (by decide) (fun _ => ?_) (fun c => absurd (hk.2.2) c))))))
              refine j209 _ _ _ _ hk.2.1 (by omega) (hr3.sI (by decide)) (hD3'.tr (Dif.sI (Or.inr ⟨rfl, by omega, rfl⟩))) (by rw [gI_sI, if_neg (by simp)]; exact n20') ?_ (fun _ => by rw [gI_sI, if_pos ⟨rfl, rfl, rfl⟩]) h
              rw [gI_sI, if_neg (by simp), hD3.2 _ _ _ (fun q => by have := q.1; omega)]
              exact ev
    unfold srtF at hsrt
    refine z_sipush (v := 192) dX5_readClause_12 (by decide) (z_iload1 dX5_readClause_15 (z_iadd dX5_readClause_16 (z_istore2 dX5_readClause_17 ?_)))
    rw [ek]
    cases hw0 : isW T (skB T e a) (wdE T e (skB T e a)) wNeed with
    | true =>
      rw [hw0, if_pos rfl] at hsrt
      subst hsrt
      refine z_aload0 dX5_readClause_18 (z_getP (v := some (63, 0)) fl_X5_27 dX5_readClause_19 rfl rfl (hM1 12 rfl) (z_iload2 dX5_readClause_22 (z_aload0 dX5_readClause_23 (z_ldcSw 47 rfl dX5_readClause_24 (z_invV1 (md_X5_isWord _) cv_X5_213 rfl dX5_readClause_27 rfl (Nat.le_of_ble_eq_true rfl) (Rm.ofB rfl) (M_isWord s47 hr1 hb1 w1 (z_if_eq 37 dX5_readClause_30 (by decide) (fun c => absurd c ((by rw [hw0]; exact n10))) (fun _ => z_iconst (v := 0) dX5_readClause_33 (by decide) (z_goto 108 dX5_readClause_34 (by decide) ?_)))))))))
      exact j108
    | false =>
      rw [hw0, if_neg (by decide)] at hsrt
      cases hw1 : isW T (skB T e a) (wdE T e (skB T e a)) wFee with
      | true =>
        rw [hw1, if_pos rfl] at hsrt
        subst hsrt
        refine z_aload0 dX5_readClause_18 (z_getP (v := some (63, 0)) fl_X5_27 dX5_readClause_19 rfl rfl (hM1 12 rfl) (z_iload2 dX5_readClause_22 (z_aload0 dX5_readClause_23 (z_ldcSw 47 rfl dX5_readClause_24 (z_invV1 (md_X5_isWord _) cv_X5_213 rfl dX5_readClause_27 rfl (Nat.le_of_ble_eq_true rfl) (Rm.ofB rfl) (M_isWord s47 hr1 hb1 w1 (z_if_eq 37 dX5_readClause_30 (by decide) (fun _ => z_aload0 dX5_readClause_37 (z_ldcSw 48 rfl dX5_readClause_38 (z_invV1 (md_X5_isWord _) cv_X5_213 rfl dX5_readClause_41 rfl (Nat.le_of_ble_eq_true rfl) (Rm.ofB rfl) (M_isWord s48 hr1 hb1 w1 (z_if_eq 51 dX5_readClause_44 (by decide) (fun c => absurd c ((by rw [hw1]; exact n10))) (fun _ => z_iconst (v := 1) dX5_readClause_47 (by decide) (z_goto 108 dX5_readClause_48 (by decide) ?_))))))) (fun c => absurd ((by rw [hw0]; rfl)) c))))))))
        exact j108
      | false =>
        rw [hw1, if_neg (by decide)] at hsrt
        cases hw2 : isW T (skB T e a) (wdE T e (skB T e a)) wYears with
        | true =>
          rw [hw2, if_pos rfl] at hsrt
          subst hsrt
          refine z_aload0 dX5_readClause_18 (z_getP (v := some (63, 0)) fl_X5_27 dX5_readClause_19 rfl rfl (hM1 12 rfl) (z_iload2 dX5_readClause_22 (z_aload0 dX5_readClause_23 (z_ldcSw 47 rfl dX5_readClause_24 (z_invV1 (md_X5_isWord _) cv_X5_213 rfl dX5_readClause_27 rfl (Nat.le_of_ble_eq_true rfl) (Rm.ofB rfl) (M_isWord s47 hr1 hb1 w1 (z_if_eq 37 dX5_readClause_30 (by decide) (fun _ => z_aload0 dX5_readClause_37 (z_ldcSw 48 rfl dX5_readClause_38 (z_invV1 (md_X5_isWord _) cv_X5_213 rfl dX5_readClause_41 rfl (Nat.le_of_ble_eq_true rfl) (Rm.ofB rfl) (M_isWord s48 hr1 hb1 w1 (z_if_eq 51 dX5_readClause_44 (by decide) (fun _ => z_aload0 dX5_readClause_51 (z_ldcSw 49 rfl dX5_readClause_52 (z_invV1 (md_X5_isWord _) cv_X5_213 rfl dX5_readClause_55 rfl (Nat.le_of_ble_eq_true rfl) (Rm.ofB rfl) (M_isWord s49 hr1 hb1 w1 (z_if_eq 65 dX5_readClause_58 (by decide) (fun c => absurd c ((by rw [hw2]; exact n10))) (fun _ => z_iconst (v := 2) dX5_readClause_61 (by decide) (z_goto 108 dX5_readClause_62 (by decide) ?_))))))) (fun c => absurd ((by rw [hw1]; rfl)) c)))))) (fun c => absurd ((by rw [hw0]; rfl)) c))))))))
          exact j108
        | false =>
          rw [hw2, if_neg (by decide)] at hsrt
          cases hw3 : isW T (skB T e a) (wdE T e (skB T e a)) wRisk with
          | true =>
            rw [hw3, if_pos rfl] at hsrt
            subst hsrt
            refine z_aload0 dX5_readClause_18 (z_getP (v := some (63, 0)) fl_X5_27 dX5_readClause_19 rfl rfl (hM1 12 rfl) (z_iload2 dX5_readClause_22 (z_aload0 dX5_readClause_23 (z_ldcSw 47 rfl dX5_readClause_24 (z_invV1 (md_X5_isWord _) cv_X5_213 rfl dX5_readClause_27 rfl (Nat.le_of_ble_eq_true rfl) (Rm.ofB rfl) (M_isWord s47 hr1 hb1 w1 (z_if_eq 37 dX5_readClause_30 (by decide) (fun _ => z_aload0 dX5_readClause_37 (z_ldcSw 48 rfl dX5_readClause_38 (z_invV1 (md_X5_isWord _) cv_X5_213 rfl dX5_readClause_41 rfl (Nat.le_of_ble_eq_true rfl) (Rm.ofB rfl) (M_isWord s48 hr1 hb1 w1 (z_if_eq 51 dX5_readClause_44 (by decide) (fun _ => z_aload0 dX5_readClause_51 (z_ldcSw 49 rfl dX5_readClause_52 (z_invV1 (md_X5_isWord _) cv_X5_213 rfl dX5_readClause_55 rfl (Nat.le_of_ble_eq_true rfl) (Rm.ofB rfl) (M_isWord s49 hr1 hb1 w1 (z_if_eq 65 dX5_readClause_58 (by decide) (fun _ => z_aload0 dX5_readClause_65 (z_ldcSw 50 rfl dX5_readClause_66 (z_invV1 (md_X5_isWord _) cv_X5_213 rfl dX5_readClause_69 rfl (Nat.le_of_ble_eq_true rfl) (Rm.ofB rfl) (M_isWord s50 hr1 hb1 w1 (z_if_eq 79 dX5_readClause_72 (by decide) (fun c => absurd c ((by rw [hw3]; exact n10))) (fun _ => z_iconst (v := 3) dX5_readClause_75 (by decide) (z_goto 108 dX5_readClause_76 (by decide) ?_))))))) (fun c => absurd ((by rw [hw2]; rfl)) c)))))) (fun c => absurd ((by rw [hw1]; rfl)) c)))))) (fun c => absurd ((by rw [hw0]; rfl)) c))))))))
            exact j108
          | false =>
            rw [hw3, if_neg (by decide)] at hsrt
            cases hw4 : isW T (skB T e a) (wdE T e (skB T e a)) wSee with
            | true =>
              rw [hw4, if_pos rfl] at hsrt
              subst hsrt
              refine z_aload0 dX5_readClause_18 (z_getP (v := some (63, 0)) fl_X5_27 dX5_readClause_19 rfl rfl (hM1 12 rfl) (z_iload2 dX5_readClause_22 (z_aload0 dX5_readClause_23 (z_ldcSw 47 rfl dX5_readClause_24 (z_invV1 (md_X5_isWord _) cv_X5_213 rfl dX5_readClause_27 rfl (Nat.le_of_ble_eq_true rfl) (Rm.ofB rfl) (M_isWord s47 hr1 hb1 w1 (z_if_eq 37 dX5_readClause_30 (by decide) (fun _ => z_aload0 dX5_readClause_37 (z_ldcSw 48 rfl dX5_readClause_38 (z_invV1 (md_X5_isWord _) cv_X5_213 rfl dX5_readClause_41 rfl (Nat.le_of_ble_eq_true rfl) (Rm.ofB rfl) (M_isWord s48 hr1 hb1 w1 (z_if_eq 51 dX5_readClause_44 (by decide) (fun _ => z_aload0 dX5_readClause_51 (z_ldcSw 49 rfl dX5_readClause_52 (z_invV1 (md_X5_isWord _) cv_X5_213 rfl dX5_readClause_55 rfl (Nat.le_of_ble_eq_true rfl) (Rm.ofB rfl) (M_isWord s49 hr1 hb1 w1 (z_if_eq 65 dX5_readClause_58 (by decide) (fun _ => z_aload0 dX5_readClause_65 (z_ldcSw 50 rfl dX5_readClause_66 (z_invV1 (md_X5_isWord _) cv_X5_213 rfl dX5_readClause_69 rfl (Nat.le_of_ble_eq_true rfl) (Rm.ofB rfl) (M_isWord s50 hr1 hb1 w1 (z_if_eq 79 dX5_readClause_72 (by decide) (fun _ => z_aload0 dX5_readClause_79 (z_ldcSw 51 rfl dX5_readClause_80 (z_invV1 (md_X5_isWord _) cv_X5_213 rfl dX5_readClause_83 rfl (Nat.le_of_ble_eq_true rfl) (Rm.ofB rfl) (M_isWord s51 hr1 hb1 w1 (z_if_eq 93 dX5_readClause_86 (by decide) (fun c => absurd c ((by rw [hw4]; exact n10))) (fun _ => z_iconst (v := 4) dX5_readClause_89 (by decide) (z_goto 108 dX5_readClause_90 (by decide) ?_))))))) (fun c => absurd ((by rw [hw3]; rfl)) c)))))) (fun c => absurd ((by rw [hw2]; rfl)) c)))))) (fun c => absurd ((by rw [hw1]; rfl)) c)))))) (fun c => absurd ((by rw [hw0]; rfl)) c))))))))
              exact j108
            | false =>
              rw [hw4, if_neg (by decide)] at hsrt
              cases hw5 : isW T (skB T e a) (wdE T e (skB T e a)) wBack with
              | true =>
                rw [hw5, if_pos rfl] at hsrt
                subst hsrt
                refine z_aload0 dX5_readClause_18 (z_getP (v := some (63, 0)) fl_X5_27 dX5_readClause_19 rfl rfl (hM1 12 rfl) (z_iload2 dX5_readClause_22 (z_aload0 dX5_readClause_23 (z_ldcSw 47 rfl dX5_readClause_24 (z_invV1 (md_X5_isWord _) cv_X5_213 rfl dX5_readClause_27 rfl (Nat.le_of_ble_eq_true rfl) (Rm.ofB rfl) (M_isWord s47 hr1 hb1 w1 (z_if_eq 37 dX5_readClause_30 (by decide) (fun _ => z_aload0 dX5_readClause_37 (z_ldcSw 48 rfl dX5_readClause_38 (z_invV1 (md_X5_isWord _) cv_X5_213 rfl dX5_readClause_41 rfl (Nat.le_of_ble_eq_true rfl) (Rm.ofB rfl) (M_isWord s48 hr1 hb1 w1 (z_if_eq 51 dX5_readClause_44 (by decide) (fun _ => z_aload0 dX5_readClause_51 (z_ldcSw 49 rfl dX5_readClause_52 (z_invV1 (md_X5_isWord _) cv_X5_213 rfl dX5_readClause_55 rfl (Nat.le_of_ble_eq_true rfl) (Rm.ofB rfl) (M_isWord s49 hr1 hb1 w1 (z_if_eq 65 dX5_readClause_58 (by decide) (fun _ => z_aload0 dX5_readClause_65 (z_ldcSw 50 rfl dX5_readClause_66 (z_invV1 (md_X5_isWord _) cv_X5_213 rfl dX5_readClause_69 rfl (Nat.le_of_ble_eq_true rfl) (Rm.ofB rfl) (M_isWord s50 hr1 hb1 w1 (z_if_eq 79 dX5_readClause_72 (by decide) (fun _ => z_aload0 dX5_readClause_79 (z_ldcSw 51 rfl dX5_readClause_80 (z_invV1 (md_X5_isWord _) cv_X5_213 rfl dX5_readClause_83 rfl (Nat.le_of_ble_eq_true rfl) (Rm.ofB rfl) (M_isWord s51 hr1 hb1 w1 (z_if_eq 93 dX5_readClause_86 (by decide) (fun _ => z_aload0 dX5_readClause_93 (z_ldcSw 52 rfl dX5_readClause_94 (z_invV1 (md_X5_isWord _) cv_X5_213 rfl dX5_readClause_97 rfl (Nat.le_of_ble_eq_true rfl) (Rm.ofB rfl) (M_isWord s52 hr1 hb1 w1 (z_if_eq 107 dX5_readClause_100 (by decide) (fun c => absurd c ((by rw [hw5]; exact n10))) (fun _ => z_iconst (v := 5) dX5_readClause_103 (by decide) (z_goto 108 dX5_readClause_104 (by decide) ?_))))))) (fun c => absurd ((by rw [hw4]; rfl)) c)))))) (fun c => absurd ((by rw [hw3]; rfl)) c)))))) (fun c => absurd ((by rw [hw2]; rfl)) c)))))) (fun c => absurd ((by rw [hw1]; rfl)) c)))))) (fun c => absurd ((by rw [hw0]; rfl)) c))))))))
                exact j108
              | false =>
                rw [hw5, if_neg (by decide)] at hsrt
                subst hsrt
                refine z_aload0 dX5_readClause_18 (z_getP (v := some (63, 0)) fl_X5_27 dX5_readClause_19 rfl rfl (hM1 12 rfl) (z_iload2 dX5_readClause_22 (z_aload0 dX5_readClause_23 (z_ldcSw 47 rfl dX5_readClause_24 (z_invV1 (md_X5_isWord _) cv_X5_213 rfl dX5_readClause_27 rfl (Nat.le_of_ble_eq_true rfl) (Rm.ofB rfl) (M_isWord s47 hr1 hb1 w1 (z_if_eq 37 dX5_readClause_30 (by decide) (fun _ => z_aload0 dX5_readClause_37 (z_ldcSw 48 rfl dX5_readClause_38 (z_invV1 (md_X5_isWord _) cv_X5_213 rfl dX5_readClause_41 rfl (Nat.le_of_ble_eq_true rfl) (Rm.ofB rfl) (M_isWord s48 hr1 hb1 w1 (z_if_eq 51 dX5_readClause_44 (by decide) (fun _ => z_aload0 dX5_readClause_51 (z_ldcSw 49 rfl dX5_readClause_52 (z_invV1 (md_X5_isWord _) cv_X5_213 rfl dX5_readClause_55 rfl (Nat.le_of_ble_eq_true rfl) (Rm.ofB rfl) (M_isWord s49 hr1 hb1 w1 (z_if_eq 65 dX5_readClause_58 (by decide) (fun _ => z_aload0 dX5_readClause_65 (z_ldcSw 50 rfl dX5_readClause_66 (z_invV1 (md_X5_isWord _) cv_X5_213 rfl dX5_readClause_69 rfl (Nat.le_of_ble_eq_true rfl) (Rm.ofB rfl) (M_isWord s50 hr1 hb1 w1 (z_if_eq 79 dX5_readClause_72 (by decide) (fun _ => z_aload0 dX5_readClause_79 (z_ldcSw 51 rfl dX5_readClause_80 (z_invV1 (md_X5_isWord _) cv_X5_213 rfl dX5_readClause_83 rfl (Nat.le_of_ble_eq_true rfl) (Rm.ofB rfl) (M_isWord s51 hr1 hb1 w1 (z_if_eq 93 dX5_readClause_86 (by decide) (fun _ => z_aload0 dX5_readClause_93 (z_ldcSw 52 rfl dX5_readClause_94 (z_invV1 (md_X5_isWord _) cv_X5_213 rfl dX5_readClause_97 rfl (Nat.le_of_ble_eq_true rfl) (Rm.ofB rfl) (M_isWord s52 hr1 hb1 w1 (z_if_eq 107 dX5_readClause_100 (by decide) (fun _ => z_iconst (v := (-1)) dX5_readClause_107 (by decide) ?_) (fun c => absurd ((by rw [hw5]; rfl)) c)))))) (fun c => absurd ((by rw [hw4]; rfl)) c)))))) (fun c => absurd ((by rw [hw3]; rfl)) c)))))) (fun c => absurd ((by rw [hw2]; rfl)) c)))))) (fun c => absurd ((by rw [hw1]; rfl)) c)))))) (fun c => absurd ((by rw [hw0]; rfl)) c))))))))
                exact j108
end M17
