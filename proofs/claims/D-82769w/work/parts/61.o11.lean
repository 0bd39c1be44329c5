/-! the Office: waits -/
section O11
variable {μ μ' : Mem} {σ : Sg} {Λ : Lws} {Q : Res → Mem → Prop} {np na nl nb ng : Nat}
def SWx : Nat → Nat → Nat → Prop := fun p _ _ => p = 20 ∨ p = 22
theorem TX.wx (hI : TX σ Λ μ) (hD1 : Dif SWx μ μ') : TX σ Λ μ' := hI.sc (S := SWx) (T := fun _ => False) ⟨fun p i k q => hD1.2 p i k q, fun p _ => ⟨hD1.C p, fun i => ⟨hD1.L p i, fun k => hD1.P p i k⟩⟩⟩ (fun p i k q => by unfold SWx at q; unfold SC; omega) (fun p q => q.elim) (fun p hp => ⟨Nat.le_of_eq (hD1.C p).symm, fun i _ => ⟨hD1.L p i, fun k => ⟨hD1.2 p i k (by unfold SWx; omega), hD1.P p i k⟩⟩⟩)
theorem X_gotAhead {a b : Nat} {x y : Int32} (hX : XP np na nl nb ng μ) (hR : RepX 0 σ μ) (hx : x = nI a) (hy : y = nI b) (ha : a < na) (hb : b < na) (hn : na ≤ 120) (hab : b < a) (h : Q (rI (bI (decide (σ 3 a < σ 3 b)))) μ) : Ct RX1 cX1_isGotAhead (5, some .boolean, [], false, rmm 1 0 0) [vr 1 0, vi x, vi y] μ Q := by
  refine Ct.of (ls := [some (vr 1 0), some (vi x), some (vi y), none, none]) rfl fun Γ C ad => ?_
  subst hx hy
  refine z_aload0 dX1_isGotAhead_0 (z_getP fl_X1_42 dX1_isGotAhead_1 rfl rfl (hX.f1 5 (by decide)) (z_getP fl_X1_232 dX1_isGotAhead_4 rfl rfl (hX.f4 _ (by decide)) (z_iload1 dX1_isGotAhead_7 (z_aald dX1_isGotAhead_8 rfl (by decide) rfl ⟨rfl, (show a < 120 by omega), Nat.le_of_ble_eq_true rfl⟩ (hX.mo ha) (z_getIv fl_X1_323 dX1_isGotAhead_9 rfl rfl (hR.q 3 _ (by decide)) (z_istore3 dX1_isGotAhead_12 (z_aload0 dX1_isGotAhead_13 (z_getP fl_X1_42 dX1_isGotAhead_14 rfl rfl (hX.f1 5 (by decide)) (z_getP fl_X1_232 dX1_isGotAhead_17 rfl rfl (hX.f4 _ (by decide)) (z_iload2 dX1_isGotAhead_20 (z_aald dX1_isGotAhead_21 rfl (by decide) rfl ⟨rfl, (show b < 120 by omega), Nat.le_of_ble_eq_true rfl⟩ (hX.mo hb) (z_getIv fl_X1_323 dX1_isGotAhead_22 rfl rfl (hR.q 3 _ (by decide)) (z_istore4 dX1_isGotAhead_25 (z_iload3 dX1_isGotAhead_27 (z_iload4 dX1_isGotAhead_28 (z_icmp_lt 44 dX1_isGotAhead_30 (by decide) (fun c_30 => ?_) (fun c_30 => ?_)))))))))))))))))
  · refine z_iconst (v := 1) dX1_isGotAhead_44 (by decide) (z_goto 49 dX1_isGotAhead_45 (by decide) (z_zreturn dX1_isGotAhead_49 rfl rfl (Nat.le_of_ble_eq_true rfl) (Nat.le_of_ble_eq_true rfl) ?_))
    exact hbt h (decide_eq_true c_30)
  · refine z_iload3 dX1_isGotAhead_33 (z_iload4 dX1_isGotAhead_34 (z_icmp_ne 48 dX1_isGotAhead_36 (by decide) (fun c_36 => ?_) (fun c_36 => ?_)))
    · refine z_iconst (v := 0) dX1_isGotAhead_48 (by decide) (z_zreturn dX1_isGotAhead_49 rfl rfl (Nat.le_of_ble_eq_true rfl) (Nat.le_of_ble_eq_true rfl) ?_)
      exact hbf h (decide_eq_false c_30)
    · refine z_iload1 dX1_isGotAhead_39 (z_iload2 dX1_isGotAhead_40 (z_icmp_ge 48 dX1_isGotAhead_41 (by decide) (fun _ => z_iconst (v := 0) dX1_isGotAhead_48 (by decide) (z_zreturn dX1_isGotAhead_49 rfl rfl (Nat.le_of_ble_eq_true rfl) (Nat.le_of_ble_eq_true rfl) ?_)) (fun c => absurd ((nI_leI (by omega) (by omega)).mpr (by omega)) c)))
      exact hbf h (decide_eq_false c_30)
theorem jmax_20 {l : Nat} (h : l ≤ 120) : jmax 0 (nI l - 20) = nI (l - min 20 l) := by
  have key : ∀ l, l < 121 → jmax 0 (nI l - 20) = nI (l - min 20 l) := by decide +kernel
  exact key l (by omega)
set_option maxRecDepth 8000 in
set_option maxHeartbeats 1000000 in
theorem O_waits {kd_ : Int32} {b : Bool} (hI : TX σ Λ μ) (hC : CT σ) (h : ∀ r μ', TX (pWaits σ kd_ b).1 Λ μ' → Fx μ μ' → XR [38] (pWaits σ kd_ b).2.1 (rI (pWaits σ kd_ b).2.2) r → Q r μ') : Ct RX1 cX1_waits (10, some .int, [], false, rmm 7 1 6) [vr 1 0, vi kd_, vi (bI b)] μ Q := by
  refine Ct.of (ls := [some (vr 1 0), some (vi kd_), some (vi (bI b)), none, none, none, none, none, none, none]) rfl fun Γ C ad => ?_
  obtain ⟨n, en, hn⟩ : ∃ n, tn (σ 34 2) = n ∧ σ 34 2 = nI n := ⟨_, rfl, hC.2.2.1.1⟩
  have hn2 : n ≤ 120 := by rw [← en]; exact hC.na
  have hX : XP (tn (σ 34 1)) n (tn (σ 34 3)) (tn (σ 7 4)) (tn (σ 34 0)) μ := by rw [← en]; exact hI.1
  have hR := hI.2.1
  have fr : ∀ {μ1 : Mem}, Dif SWx μ μ1 → Fx μ μ1 := fun hD p i k hp => ⟨hD.2 p i k (by unfold SWx; omega), hD.P p i k⟩
  unfold pWaits at h
  by_cases h1 : 0 ≤ kd_ ∧ kd_ ≤ 3
  · rw [if_neg (nn h1), waitF, en] at h
    dsimp only at h
    have stW : ∀ (l : List Nat) (μ1 : Mem) (o5 o6 o7 o8 o9 : Option AV), l = (gotS σ kd_ n).reverse → Dif SWx μ μ1 → rowIs (gI μ1 20 0) l → (∀ x ∈ l, x < n) → l.length ≤ n →
        Z RX1 cX1_waits (10, some .int, [], false, rmm 7 1 6) (Γ, C, μ, ad, Q) 1 6 μ1 124 [some (vr 1 0), some (vi kd_), some (vi (bI b)), some (vi (nI l.length)), some (vi (nI n)), o5, o6, o7, o8, o9] [] := by
      intro l μ1 o5 o6 o7 o8 o9 hl hD1 hrow hln hll
      rw [← hl] at h
      have e20 : jmax 0 (nI l.length - 20) = nI (l.length - min 20 l.length) := jmax_20 (by omega)
      generalize hmany : min 20 l.length = many at *
      have hm20 : many ≤ 20 := by omega
      have hml : many ≤ l.length := by omega
      have e21 : nI l.length - nI (l.length - many) = nI many := by
        have e : l.length = many + (l.length - many) := by omega
        rw [e, ← nI_add, show many + (l.length - many) - many = l.length - many by omega, Int32.add_sub_cancel]
      refine z_iconst (v := 0) dX1_waits_124 (by decide) (z_iload3 dX1_waits_125 (z_bipush (v := 20) dX1_waits_126 (by decide) (z_isub dX1_waits_128 (z_invS2 (md_J11_max _) cs_X1_344 dX1_waits_129 rfl (Nat.le_of_ble_eq_true rfl) (Rm.ofB rfl) (J_max (z_istore4 dX1_waits_132 (z_iload3 dX1_waits_134 (z_iload4 dX1_waits_135 (z_isub dX1_waits_137 (z_istore5 dX1_waits_138 (z_iconst (v := 0) dX1_waits_140 (by decide) (z_istore6 dX1_waits_141 ?_))))))))))))
      rw [e20, e21]
      have lp : ∀ k, k ≤ many → ∀ (μ2 : Mem) (o7 o8 o9 : Option AV), Dif SWx μ μ2 → rowIs (gI μ2 20 0) l → rowJ (gI μ2 22 0) (waitS σ l many k).reverse →
          Z RX1 cX1_waits (10, some .int, [], false, rmm 7 1 6) (Γ, C, μ, ad, Q) 1 6 μ2 143 [some (vr 1 0), some (vi kd_), some (vi (bI b)), some (vi (nI l.length)), some (vi (nI (l.length - many))), some (vi (nI many)), some (vi (nI k)), o7, o8, o9] [] := by
        refine loopN (P := fun k => ∀ (μ2 : Mem) (o7 o8 o9 : Option AV), Dif SWx μ μ2 → rowIs (gI μ2 20 0) l → rowJ (gI μ2 22 0) (waitS σ l many k).reverse →
          Z RX1 cX1_waits (10, some .int, [], false, rmm 7 1 6) (Γ, C, μ, ad, Q) 1 6 μ2 143 [some (vr 1 0), some (vi kd_), some (vi (bI b)), some (vi (nI l.length)), some (vi (nI (l.length - many))), some (vi (nI many)), some (vi (nI k)), o7, o8, o9] []) many ?_ ?_
        · intro μ2 o7 o8 o9 hD2 hr2 hw2
          have hX2 := hX.of hD2.1
          have h' := fun r => h r μ2 (hI.wx hD2) (fr hD2)
          have hwl : (waitS σ l many many).reverse.length = many := by rw [List.length_reverse, waitS_len]
          have ed : nI many / 10 = nI (many / 10) := pk_div (a := many) (d := 10) (by omega) (by decide) (by decide)
          by_cases hz : many = 0
          · rw [if_pos hz] at h'
            refine z_iload6 dX1_waits_143 (z_iload5 dX1_waits_145 (z_icmp_ge 248 dX1_waits_147 (by decide) (fun _ => z_iload5 dX1_waits_248 (z_bipush (v := 10) dX1_waits_250 (by decide) (z_idiv dX1_waits_252 (by decide) (z_istore6 dX1_waits_253 (z_iload5 dX1_waits_255 (z_if_ne 264 dX1_waits_257 (by decide) (fun c => absurd ((by rw [hz]; rfl)) c) (fun _ => z_iconst (v := (-1)) dX1_waits_260 (by decide) (z_goto 290 dX1_waits_261 (by decide) (z_ireturn dX1_waits_290 rfl (Nat.le_of_ble_eq_true rfl) (Nat.le_of_ble_eq_true rfl) ?_))))))))) (fun c => absurd (lpt (n := many) rfl) c)))
            exact h' _ XR.ok
          · rw [if_neg hz] at h'
            have hne : ¬ nI many = 0 := nI_ne0 (by omega) (by omega)
            cases b with
            | true =>
              rw [if_pos rfl] at h'
              have e1 : nI many - 1 - nI many / 10 = nI (many - 1 - many / 10) := by
                rw [ed]
                have : ∀ m, m ≤ 20 → 0 < m → nI m - 1 - nI (m / 10) = nI (m - 1 - m / 10) := by decide +kernel
                exact this many hm20 (by omega)
              refine z_iload6 dX1_waits_143 (z_iload5 dX1_waits_145 (z_icmp_ge 248 dX1_waits_147 (by decide) (fun _ => z_iload5 dX1_waits_248 (z_bipush (v := 10) dX1_waits_250 (by decide) (z_idiv dX1_waits_252 (by decide) (z_istore6 dX1_waits_253 (z_iload5 dX1_waits_255 (z_if_ne 264 dX1_waits_257 (by decide) (fun _ => z_iload2 dX1_waits_264 (z_if_eq 283 dX1_waits_265 (by decide) (fun c => absurd c (n10)) (fun _ => z_aload0 dX1_waits_268 (z_getP fl_X1_71 dX1_waits_269 rfl rfl (hX2.f1 12 (by decide)) (z_iload5 dX1_waits_272 (z_iconst (v := 1) dX1_waits_274 (by decide) (z_isub dX1_waits_275 (z_iload6 dX1_waits_276 (z_isub dX1_waits_278 (z_ialdv dX1_waits_279 rfl ⟨e1, (show many - 1 - many / 10 < 20 by omega), Nat.le_of_ble_eq_true rfl⟩ (hw2 (many - 1 - many / 10) (by omega)) (z_goto 290 dX1_waits_280 (by decide) (z_ireturn dX1_waits_290 rfl (Nat.le_of_ble_eq_true rfl) (Nat.le_of_ble_eq_true rfl) ?_)))))))))))) (fun c => absurd c (hne)))))))) (fun c => absurd (lpt (n := many) rfl) c)))
              exact h' _ XR.ok
            | false =>
              rw [if_neg (by decide)] at h'
              refine z_iload6 dX1_waits_143 (z_iload5 dX1_waits_145 (z_icmp_ge 248 dX1_waits_147 (by decide) (fun _ => z_iload5 dX1_waits_248 (z_bipush (v := 10) dX1_waits_250 (by decide) (z_idiv dX1_waits_252 (by decide) (z_istore6 dX1_waits_253 (z_iload5 dX1_waits_255 (z_if_ne 264 dX1_waits_257 (by decide) (fun _ => z_iload2 dX1_waits_264 (z_if_eq 283 dX1_waits_265 (by decide) (fun _ => z_aload0 dX1_waits_283 (z_getP fl_X1_71 dX1_waits_284 rfl rfl (hX2.f1 12 (by decide)) (z_iload6 dX1_waits_287 (z_ialdv dX1_waits_289 rfl ⟨ed, (show many / 10 < 20 by omega), Nat.le_of_ble_eq_true rfl⟩ (hw2 (many / 10) (by omega)) (z_ireturn dX1_waits_290 rfl (Nat.le_of_ble_eq_true rfl) (Nat.le_of_ble_eq_true rfl) ?_))))) (fun c => absurd (rfl) c))) (fun c => absurd c (hne)))))))) (fun c => absurd (lpt (n := many) rfl) c)))
              exact h' _ XR.ok
        · intro k hk ih μ2 o7 o8 o9 hD2 hr2 hw2
          have hX2 := hX.of hD2.1
          have hR2 := (hI.wx hD2).2.1
          have ei : nI (l.length - many) + nI k = nI (l.length - many + k) := nI_add _ _
          have hix : l.length - many + k < l.length := by omega
          have ea := hr2 (l.length - many + k) hix
          rw [waitS] at ih
          generalize hva : l.getD (l.length - many + k) 0 = a at *
          have han : a < n := by rw [← hva]; exact hln _ (getD_mem hix)
          generalize hvv : σ 3 a - σ 14 a = v at *
          have hwlen := waitS_len σ l many k
          have fin : ∀ (T S : List Int32) (μ3 : Mem), waitS σ l many k = S ++ T → insI v (waitS σ l many k) = S ++ v :: T → Dif SWx μ μ3 → rowIs (gI μ3 20 0) l → (∀ j, j < T.length → gI μ3 22 0 j = T.reverse.getD j 0) → (∀ j, j < S.length → gI μ3 22 0 (T.length + 1 + j) = S.reverse.getD j 0) → Z RX1 cX1_waits (10, some .int, [], false, rmm 7 1 6) (Γ, C, μ, ad, Q) (1) (6) (μ3) 233 [some (vr 1 0), some (vi kd_), some (vi (bI b)), some (vi (nI l.length)), some (vi (nI (l.length - many))), some (vi (nI many)), some (vi (nI k)), some (vi (nI a)), some (vi v), some (vi (nI T.length))] [] := by
            intro T S μ3 e1 e2 hD3 hr3 g1 g2
            have hTl : T.length < 20 := by
              have := congrArg List.length e1
              rw [List.length_append] at this
              omega
            have hX3 := hX.of hD3.1
            refine z_aload0 dX1_waits_233 (z_getP fl_X1_71 dX1_waits_234 rfl rfl (hX3.f1 12 (by decide)) (z_iload9 dX1_waits_237 (z_iload8 dX1_waits_239 (z_iast dX1_waits_241 rfl ⟨rfl, hTl, Nat.le_of_ble_eq_true rfl⟩ (z_iinc6 dX1_waits_242 (inc1 k) (z_goto 143 dX1_waits_245 (by decide) ?_))))))
            refine ih _ _ _ _ (hD3.tr (Dif.sI (Or.inr rfl))) (fun j hj => by rw [gI_sI, if_neg (by simp)]; exact hr3 j hj) ?_
            rw [e2]
            exact rowJ_fin g1 g2 (by rw [gI_sI, if_pos ⟨rfl, rfl, rfl⟩]) (fun j hj => by rw [gI_sI, if_neg (fun q => hj q.2.2)])
          have inner : ∀ (T S : List Int32) (μ3 : Mem), waitS σ l many k = S ++ T → insI v (waitS σ l many k) = S ++ insI v T → Dif SWx μ μ3 → rowIs (gI μ3 20 0) l → (∀ j, j < T.length → gI μ3 22 0 j = T.reverse.getD j 0) → (∀ j, j < S.length → gI μ3 22 0 (T.length + 1 + j) = S.reverse.getD j 0) → Z RX1 cX1_waits (10, some .int, [], false, rmm 7 1 6) (Γ, C, μ, ad, Q) (1) (6) (μ3) 192 [some (vr 1 0), some (vi kd_), some (vi (bI b)), some (vi (nI l.length)), some (vi (nI (l.length - many))), some (vi (nI many)), some (vi (nI k)), some (vi (nI a)), some (vi v), some (vi (nI T.length))] [] := by
            intro T
            induction T with
            | nil =>
              intro S μ3 e1 e2 hD3 hr3 g1 g2
              refine z_iload9 dX1_waits_192 (z_if_le 233 dX1_waits_194 (by decide) (fun _ => ?_) (fun c => absurd ((by decide : nI ([] : List Int32).length ≤ 0)) c))
              exact fin [] S μ3 e1 e2 hD3 hr3 g1 g2
            | cons x T ihT =>
              intro S μ3 e1 e2 hD3 hr3 g1 g2
              have hlen : S.length + (T.length + 1) = k := by
                have := congrArg List.length e1
                rw [List.length_append, List.length_cons] at this
                omega
              have hX3 := hX.of hD3.1
              have ex : gI μ3 22 0 T.length = x := (g1 T.length (Nat.lt_succ_self _)).trans (by rw [getD_rev_lastJ])
              have e2' : insI v (waitS σ l many k) = S ++ (if v < x then x :: insI v T else v :: x :: T) := e2
              refine z_iload9 dX1_waits_192 (z_if_le 233 dX1_waits_194 (by decide) (fun c => absurd c (nI_nle (n := T.length + 1) (by omega) (by omega))) (fun _ => z_aload0 dX1_waits_197 (z_getP fl_X1_71 dX1_waits_198 rfl rfl (hX3.f1 12 (by decide)) (z_iload9 dX1_waits_201 (z_iconst (v := 1) dX1_waits_203 (by decide) (z_isub dX1_waits_204 (z_ialdv dX1_waits_205 rfl ⟨nI_pred T.length, (show T.length < 20 by omega), Nat.le_of_ble_eq_true rfl⟩ (ex) (z_iload8 dX1_waits_206 (z_icmp_le 233 dX1_waits_208 (by decide) (fun c_208 => ?_) (fun c_208 => ?_))))))))))
              · rw [if_neg (Int32.not_lt.mpr c_208)] at e2'
                exact fin (x :: T) S μ3 e1 e2' hD3 hr3 g1 g2
              · rw [if_pos (Int32.not_le.mp c_208)] at e2'
                refine z_aload0 dX1_waits_211 (z_getP fl_X1_71 dX1_waits_212 rfl rfl (hX3.f1 12 (by decide)) (z_iload9 dX1_waits_215 (z_aload0 dX1_waits_217 (z_getP fl_X1_71 dX1_waits_218 rfl rfl (hX3.f1 12 (by decide)) (z_iload9 dX1_waits_221 (z_iconst (v := 1) dX1_waits_223 (by decide) (z_isub dX1_waits_224 (z_ialdv dX1_waits_225 rfl ⟨nI_pred T.length, (show T.length < 20 by omega), Nat.le_of_ble_eq_true rfl⟩ (ex) (z_iast dX1_waits_226 rfl ⟨rfl, (show T.length + 1 < 20 by omega), Nat.le_of_ble_eq_true rfl⟩ (z_iinc9 dX1_waits_227 (dec1 T.length) (z_goto 192 dX1_waits_230 (by decide) ?_)))))))))))
                refine ihT (S ++ [x]) _ (by rw [e1, List.append_assoc]; rfl) (by rw [e2', List.append_assoc]; rfl) (hD3.tr (Dif.sI (Or.inr rfl))) (fun j hj => by rw [gI_sI, if_neg (by simp)]; exact hr3 j hj) (fun j hj => ?_) (fun j hj => ?_)
                · rw [gI_sI, if_neg (fun q => by have := q.2.2; rw [List.length_cons] at this; omega), g1 j (by rw [List.length_cons]; omega), getD_rev_ltJ hj]
                · rw [List.reverse_append, List.reverse_singleton]
                  cases j with
                  | zero => rw [gI_sI, if_pos ⟨rfl, rfl, rfl⟩]; rfl
                  | succ j =>
                    rw [gI_sI, if_neg (fun q => by have := q.2.2; rw [List.length_cons] at this; omega)]
                    have := g2 j (by rw [List.length_append, List.length_singleton] at hj; omega)
                    rw [List.length_cons, show T.length + 1 + 1 + j = T.length + 1 + (j + 1) by omega] at this
                    rw [this]
                    rfl
          refine z_iload6 dX1_waits_143 (z_iload5 dX1_waits_145 (z_icmp_ge 248 dX1_waits_147 (by decide) (fun c => absurd c (lpf (n := many) rfl hk (by omega))) (fun _ => z_aload0 dX1_waits_150 (z_getP fl_X1_65 dX1_waits_151 rfl rfl (hX2.f1 10 (by decide)) (z_iload4 dX1_waits_154 (z_iload6 dX1_waits_156 (z_iadd dX1_waits_158 (z_ialdv dX1_waits_159 rfl ⟨ei, (show l.length - many + k < 120 by omega), Nat.le_of_ble_eq_true rfl⟩ (ea) (z_istore7 dX1_waits_160 (z_aload0 dX1_waits_162 (z_getP fl_X1_42 dX1_waits_163 rfl rfl (hX2.f1 5 (by decide)) (z_getP fl_X1_232 dX1_waits_166 rfl rfl (hX2.f4 _ (by decide)) (z_iload7 dX1_waits_169 (z_aald dX1_waits_171 rfl (by decide) rfl ⟨rfl, (show a < 120 by omega), Nat.le_of_ble_eq_true rfl⟩ (hX2.mo han) (z_getIv fl_X1_323 dX1_waits_172 rfl rfl (hR2.q 3 _ (by decide)) (z_aload0 dX1_waits_175 (z_getP fl_X1_35 dX1_waits_176 rfl rfl (hX2.f1 4 (by decide)) (z_iload7 dX1_waits_179 (z_aald dX1_waits_181 rfl (by decide) rfl ⟨rfl, (show a < 120 by omega), Nat.le_of_ble_eq_true rfl⟩ (hX2.as han) (z_getIv fl_X1_311 dX1_waits_182 rfl rfl (hR2.q 14 _ (by decide)) (z_isub dX1_waits_185 (z_istore8 dX1_waits_186 (z_iload6 dX1_waits_188 (z_istore9 dX1_waits_190 ?_))))))))))))))))))))))))
          rw [hvv]
          have := inner _ [] μ2 rfl rfl hD2 hr2 (fun j hj => hw2 j (by rw [List.length_reverse]; exact hj)) (fun j hj => absurd hj (Nat.not_lt_zero _))
          rw [hwlen] at this
          exact this
      exact lp 0 (Nat.zero_le _) μ1 _ _ _ hD1 hrow (fun j hj => absurd hj (Nat.not_lt_zero _))
    have go : ∀ k, k ≤ n → ∀ (μ' : Mem) (o5 o6 o7 o8 o9 : Option AV), Dif SWx μ μ' → rowIs (gI μ' 20 0) (gotS σ kd_ k).reverse →
        Z RX1 cX1_waits (10, some .int, [], false, rmm 7 1 6) (Γ, C, μ, ad, Q) 1 6 μ' 14 [some (vr 1 0), some (vi kd_), some (vi (bI b)), some (vi (nI (gotS σ kd_ k).length)), some (vi (nI k)), o5, o6, o7, o8, o9] [] := by
      refine loopN (P := fun k => ∀ (μ' : Mem) (o5 o6 o7 o8 o9 : Option AV), Dif SWx μ μ' → rowIs (gI μ' 20 0) (gotS σ kd_ k).reverse →
        Z RX1 cX1_waits (10, some .int, [], false, rmm 7 1 6) (Γ, C, μ, ad, Q) 1 6 μ' 14 [some (vr 1 0), some (vi kd_), some (vi (bI b)), some (vi (nI (gotS σ kd_ k).length)), some (vi (nI k)), o5, o6, o7, o8, o9] []) n ?_ ?_
      · intro μ' o5 o6 o7 o8 o9 hD hr
        have hR' := (hI.wx hD).2.1
        refine z_iload4 dX1_waits_14 (z_aload0 dX1_waits_16 (z_getIv fl_X1_122 dX1_waits_17 rfl rfl (hR'.t 2 (by decide)) (z_icmp_ge 124 dX1_waits_20 (by decide) (fun _ => ?_) (fun c => absurd (lpt hn) c))))
        have := stW _ μ' o5 o6 o7 o8 o9 rfl hD hr (fun x hx => gotS_lt σ kd_ n x (List.mem_reverse.mp hx)) (by rw [List.length_reverse]; exact gotS_len σ kd_ n)
        rw [List.length_reverse] at this
        exact this
      · intro k hk ih μ' o5 o6 o7 o8 o9 hD hr
        have hR' := (hI.wx hD).2.1
        have hX' := hX.of hD.1
        rw [gotS] at ih
        have k120 : k < 120 := by omega
        by_cases q2 : σ 0 k = 7
        · by_cases q1 : σ 13 k = kd_
          · rw [if_pos ⟨q1, q2⟩] at ih
            have hlen := gotS_len σ kd_ k
            have fin : ∀ (T S : List Nat) (μ2 : Mem), gotS σ kd_ k = S ++ T → insR (fun a b => decide (σ 3 a < σ 3 b)) k (gotS σ kd_ k) = S ++ k :: T → Dif SWx μ μ2 → (∀ j, j < T.length → gI μ2 20 0 j = nI (T.reverse.getD j 0)) → (∀ j, j < S.length → gI μ2 20 0 (T.length + 1 + j) = nI (S.reverse.getD j 0)) →
                Z RX1 cX1_waits (10, some .int, [], false, rmm 7 1 6) (Γ, C, μ, ad, Q) 1 6 μ2 106 [some (vr 1 0), some (vi kd_), some (vi (bI b)), some (vi (nI (gotS σ kd_ k).length)), some (vi (nI k)), some (vi (nI T.length)), o6, o7, o8, o9] [] := by
              intro T S μ2 e1 e2 hD2 g1 g2
              have hTl : T.length < 120 := by
                have := congrArg List.length e1
                rw [List.length_append] at this
                omega
              have hX2 := hX.of hD2.1
              refine z_aload0 dX1_waits_106 (z_getP fl_X1_65 dX1_waits_107 rfl rfl (hX2.f1 10 (by decide)) (z_iload5 dX1_waits_110 (z_iload4 dX1_waits_112 (z_iast dX1_waits_114 rfl ⟨rfl, hTl, Nat.le_of_ble_eq_true rfl⟩ (z_iinc3 dX1_waits_115 (inc1 _) (z_iinc4 dX1_waits_118 (inc1 k) (z_goto 14 dX1_waits_121 (by decide) ?_)))))))
              rw [insR_len] at ih
              refine ih _ _ _ _ _ _ (hD2.tr (Dif.sI (Or.inl rfl))) ?_
              rw [e2]
              exact rowIs_fin g1 g2 (by rw [gI_sI, if_pos ⟨rfl, rfl, rfl⟩]) (fun j hj => by rw [gI_sI, if_neg (fun q => hj q.2.2)])
            have inner : ∀ (T S : List Nat) (μ2 : Mem), gotS σ kd_ k = S ++ T → insR (fun a b => decide (σ 3 a < σ 3 b)) k (gotS σ kd_ k) = S ++ insR (fun a b => decide (σ 3 a < σ 3 b)) k T → Dif SWx μ μ2 → (∀ j, j < T.length → gI μ2 20 0 j = nI (T.reverse.getD j 0)) → (∀ j, j < S.length → gI μ2 20 0 (T.length + 1 + j) = nI (S.reverse.getD j 0)) →
                Z RX1 cX1_waits (10, some .int, [], false, rmm 7 1 6) (Γ, C, μ, ad, Q) 1 6 μ2 61 [some (vr 1 0), some (vi kd_), some (vi (bI b)), some (vi (nI (gotS σ kd_ k).length)), some (vi (nI k)), some (vi (nI T.length)), o6, o7, o8, o9] [] := by
              intro T
              induction T with
              | nil =>
                intro S μ2 e1 e2 hD2 g1 g2
                refine z_iload5 dX1_waits_61 (z_if_le 106 dX1_waits_63 (by decide) (fun _ => ?_) (fun c => absurd ((by decide : nI ([] : List Nat).length ≤ 0)) c))
                exact fin [] S μ2 e1 e2 hD2 g1 g2
              | cons x T ihT =>
                intro S μ2 e1 e2 hD2 g1 g2
                have hxm : x ∈ gotS σ kd_ k := by rw [e1]; exact List.mem_append_right _ List.mem_cons_self
                have hx := gotS_lt σ kd_ k x hxm
                have hl : S.length + (T.length + 1) ≤ k := by
                  have := congrArg List.length e1
                  rw [List.length_append, List.length_cons] at this
                  omega
                have hR2 := (hI.wx hD2).2.1
                have hX2 := hX.of hD2.1
                have ex : gI μ2 20 0 T.length = nI x := (g1 T.length (Nat.lt_succ_self _)).trans (by rw [getD_rev_last])
                have e2' : insR (fun a b => decide (σ 3 a < σ 3 b)) k (gotS σ kd_ k) = S ++ (if decide (σ 3 k < σ 3 x) then x :: insR (fun a b => decide (σ 3 a < σ 3 b)) k T else k :: x :: T) := e2
                refine z_iload5 dX1_waits_61 (z_if_le 106 dX1_waits_63 (by decide) (fun c => absurd c (nI_nle (n := T.length + 1) (by omega) (by omega))) (fun _ => z_aload0 dX1_waits_66 (z_iload4 dX1_waits_67 (z_aload0 dX1_waits_69 (z_getP fl_X1_65 dX1_waits_70 rfl rfl (hX2.f1 10 (by decide)) (z_iload5 dX1_waits_73 (z_iconst (v := 1) dX1_waits_75 (by decide) (z_isub dX1_waits_76 (z_ialdv dX1_waits_77 rfl ⟨nI_pred T.length, (show T.length < 120 by omega), Nat.le_of_ble_eq_true rfl⟩ (ex) (z_invV2 (md_X1_isGotAhead _) cv_X1_422 rfl dX1_waits_78 rfl (Nat.le_of_ble_eq_true rfl) (Rm.ofB rfl) (X_gotAhead hX2 hR2 rfl rfl hk (by omega) hn2 hx (z_if_eq 106 dX1_waits_81 (by decide) (fun c_81 => ?_) (fun c_81 => ?_)))))))))))))
                · rw [bI_0.mp c_81] at e2'
                  exact fin (x :: T) S μ2 e1 e2' hD2 g1 g2
                · rw [bI_n0 c_81, if_pos rfl] at e2'
                  refine z_aload0 dX1_waits_84 (z_getP fl_X1_65 dX1_waits_85 rfl rfl (hX2.f1 10 (by decide)) (z_iload5 dX1_waits_88 (z_aload0 dX1_waits_90 (z_getP fl_X1_65 dX1_waits_91 rfl rfl (hX2.f1 10 (by decide)) (z_iload5 dX1_waits_94 (z_iconst (v := 1) dX1_waits_96 (by decide) (z_isub dX1_waits_97 (z_ialdv dX1_waits_98 rfl ⟨nI_pred T.length, (show T.length < 120 by omega), Nat.le_of_ble_eq_true rfl⟩ (ex) (z_iast dX1_waits_99 rfl ⟨rfl, (show T.length + 1 < 120 by omega), Nat.le_of_ble_eq_true rfl⟩ (z_iinc5 dX1_waits_100 (dec1 T.length) (z_goto 61 dX1_waits_103 (by decide) ?_)))))))))))
                  refine ihT (S ++ [x]) _ (by rw [e1, List.append_assoc]; rfl) (by rw [e2', List.append_assoc]; rfl) (hD2.tr (Dif.sI (Or.inl rfl))) (fun j hj => ?_) (fun j hj => ?_)
                  · rw [gI_sI, if_neg (fun q => by have := q.2.2; rw [List.length_cons] at this; omega), g1 j (by rw [List.length_cons]; omega), getD_rev_lt hj]
                  · rw [List.reverse_append, List.reverse_singleton]
                    cases j with
                    | zero => rw [gI_sI, if_pos ⟨rfl, rfl, rfl⟩]; rfl
                    | succ j =>
                      rw [gI_sI, if_neg (fun q => by have := q.2.2; rw [List.length_cons] at this; omega)]
                      have := g2 j (by rw [List.length_append, List.length_singleton] at hj; omega)
                      rw [List.length_cons, show T.length + 1 + 1 + j = T.length + 1 + (j + 1) by omega] at this
                      rw [this]
                      rfl
            refine z_iload4 dX1_waits_14 (z_aload0 dX1_waits_16 (z_getIv fl_X1_122 dX1_waits_17 rfl rfl (hR'.t 2 (by decide)) (z_icmp_ge 124 dX1_waits_20 (by decide) (fun c => absurd c (lpf hn hk (by omega))) (fun _ => z_aload0 dX1_waits_23 (z_getP fl_X1_42 dX1_waits_24 rfl rfl (hX'.f1 5 (by decide)) (z_getP fl_X1_232 dX1_waits_27 rfl rfl (hX'.f4 _ (by decide)) (z_iload4 dX1_waits_30 (z_aald dX1_waits_32 rfl (by decide) rfl ⟨rfl, k120, Nat.le_of_ble_eq_true rfl⟩ (hX'.mo hk) (z_getIv fl_X1_236 dX1_waits_33 rfl rfl (hR'.q 0 _ (by decide)) (z_bipush (v := 7) dX1_waits_36 (by decide) (z_icmp_ne 118 dX1_waits_38 (by decide) (fun c => absurd (q2) c) (fun _ => z_aload0 dX1_waits_41 (z_getP fl_X1_35 dX1_waits_42 rfl rfl (hX'.f1 4 (by decide)) (z_iload4 dX1_waits_45 (z_aald dX1_waits_47 rfl (by decide) rfl ⟨rfl, k120, Nat.le_of_ble_eq_true rfl⟩ (hX'.as hk) (z_getIv fl_X1_308 dX1_waits_48 rfl rfl (hR'.q 13 _ (by decide)) (z_iload1 dX1_waits_51 (z_icmp_eq 58 dX1_waits_52 (by decide) (fun _ => z_iload3 dX1_waits_58 (z_istore5 dX1_waits_59 ?_)) (fun c => absurd (q1) c)))))))))))))))))))
            exact inner _ [] μ' rfl rfl hD (fun j hj => hr j (by rw [List.length_reverse]; exact hj)) (fun j hj => absurd hj (Nat.not_lt_zero _))
          · rw [if_neg (fun q => q1 q.1)] at ih
            refine z_iload4 dX1_waits_14 (z_aload0 dX1_waits_16 (z_getIv fl_X1_122 dX1_waits_17 rfl rfl (hR'.t 2 (by decide)) (z_icmp_ge 124 dX1_waits_20 (by decide) (fun c => absurd c (lpf hn hk (by omega))) (fun _ => z_aload0 dX1_waits_23 (z_getP fl_X1_42 dX1_waits_24 rfl rfl (hX'.f1 5 (by decide)) (z_getP fl_X1_232 dX1_waits_27 rfl rfl (hX'.f4 _ (by decide)) (z_iload4 dX1_waits_30 (z_aald dX1_waits_32 rfl (by decide) rfl ⟨rfl, k120, Nat.le_of_ble_eq_true rfl⟩ (hX'.mo hk) (z_getIv fl_X1_236 dX1_waits_33 rfl rfl (hR'.q 0 _ (by decide)) (z_bipush (v := 7) dX1_waits_36 (by decide) (z_icmp_ne 118 dX1_waits_38 (by decide) (fun c => absurd (q2) c) (fun _ => z_aload0 dX1_waits_41 (z_getP fl_X1_35 dX1_waits_42 rfl rfl (hX'.f1 4 (by decide)) (z_iload4 dX1_waits_45 (z_aald dX1_waits_47 rfl (by decide) rfl ⟨rfl, k120, Nat.le_of_ble_eq_true rfl⟩ (hX'.as hk) (z_getIv fl_X1_308 dX1_waits_48 rfl rfl (hR'.q 13 _ (by decide)) (z_iload1 dX1_waits_51 (z_icmp_eq 58 dX1_waits_52 (by decide) (fun c => absurd c (q1)) (fun _ => z_goto 118 dX1_waits_55 (by decide) (z_iinc4 dX1_waits_118 (inc1 k) (z_goto 14 dX1_waits_121 (by decide) ?_)))))))))))))))))))))
            exact ih μ' _ _ _ _ _ hD hr
        · rw [if_neg (fun q => q2 q.2)] at ih
          refine z_iload4 dX1_waits_14 (z_aload0 dX1_waits_16 (z_getIv fl_X1_122 dX1_waits_17 rfl rfl (hR'.t 2 (by decide)) (z_icmp_ge 124 dX1_waits_20 (by decide) (fun c => absurd c (lpf hn hk (by omega))) (fun _ => z_aload0 dX1_waits_23 (z_getP fl_X1_42 dX1_waits_24 rfl rfl (hX'.f1 5 (by decide)) (z_getP fl_X1_232 dX1_waits_27 rfl rfl (hX'.f4 _ (by decide)) (z_iload4 dX1_waits_30 (z_aald dX1_waits_32 rfl (by decide) rfl ⟨rfl, k120, Nat.le_of_ble_eq_true rfl⟩ (hX'.mo hk) (z_getIv fl_X1_236 dX1_waits_33 rfl rfl (hR'.q 0 _ (by decide)) (z_bipush (v := 7) dX1_waits_36 (by decide) (z_icmp_ne 118 dX1_waits_38 (by decide) (fun _ => z_iinc4 dX1_waits_118 (inc1 k) (z_goto 14 dX1_waits_121 (by decide) ?_)) (fun c => absurd c (q2)))))))))))))
          exact ih μ' _ _ _ _ _ hD hr
    refine z_iload1 dX1_waits_0 (z_iconst (v := 0) dX1_waits_1 (by decide) (z_iconst (v := 3) dX1_waits_2 (by decide) (z_invS3 (md_X1_isIn _) cs_X1_114 dX1_waits_3 rfl (Nat.le_of_ble_eq_true rfl) (Rm.ofB rfl) (X_inT h1 (z_invS1 (md_X1_must _) cs_X1_143 dX1_waits_6 rfl (Nat.le_of_ble_eq_true rfl) (Rm.ofB rfl) (X_mustT (z_iconst (v := 0) dX1_waits_9 (by decide) (z_istore3 dX1_waits_10 (z_iconst (v := 0) dX1_waits_11 (by decide) (z_istore4 dX1_waits_12 ?_))))))))))
    exact go 0 (Nat.zero_le _) μ _ _ _ _ _ Dif.rf (fun j hj => absurd hj (Nat.not_lt_zero _))
  · rw [if_pos h1] at h
    refine z_iload1 dX1_waits_0 (z_iconst (v := 0) dX1_waits_1 (by decide) (z_iconst (v := 3) dX1_waits_2 (by decide) (z_invS3 (md_X1_isIn _) cs_X1_114 dX1_waits_3 rfl (Nat.le_of_ble_eq_true rfl) (Rm.ofB rfl) (X_inF h1 (z_invS1 (md_X1_must _) cs_X1_143 dX1_waits_6 rfl (Nat.le_of_ble_eq_true rfl) (Rm.ofB rfl) (X_mustF ?_))))))
    exact fun μ' i q => ⟨rfl, h _ _ (hI.exc q) (Fx.exc q) XR.e1⟩
end O11
