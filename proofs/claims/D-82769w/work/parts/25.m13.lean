/-! Model: waits -/
section M13
variable {μ μ' : Mem} {Q : Res → Mem → Prop} {σ : Sg} {Λ : Lws}
theorem gotS_lt (σ : Sg) (kind : Int32) : ∀ k x, x ∈ gotS σ kind k → x < k
  | 0, x, h => by cases h
  | k + 1, x, h => by
    rw [gotS] at h
    split at h
    · rcases (insR_mem _ _ _ _).mp h with rfl | h
      · exact Nat.lt_succ_self _
      · have := gotS_lt σ kind k x h; omega
    · have := gotS_lt σ kind k x h; omega
theorem gotS_len (σ : Sg) (kind : Int32) : ∀ k, (gotS σ kind k).length ≤ k
  | 0 => Nat.le_refl _
  | k + 1 => by
    rw [gotS]
    have := gotS_len σ kind k
    split
    · rw [insR_len]; omega
    · omega
theorem insI_len (v : Int32) : ∀ l : List Int32, (insI v l).length = l.length + 1
  | [] => rfl
  | y :: t => by
    rw [insI]
    split
    · rw [List.length_cons, insI_len v t, List.length_cons]
    · rfl
theorem waitS_len (σ : Sg) (l : List Nat) (m : Nat) : ∀ k, (waitS σ l m k).length = k
  | 0 => rfl
  | k + 1 => by rw [waitS, insI_len, waitS_len σ l m k]
def rowJ (A : Nat → Int32) (l : List Int32) : Prop := ∀ j, j < l.length → A j = l.getD j 0
theorem rowJ_fin {A B : Nat → Int32} {S T : List Int32} {v : Int32} (h1 : ∀ j, j < T.length → A j = T.reverse.getD j 0) (h2 : ∀ j, j < S.length → A (T.length + 1 + j) = S.reverse.getD j 0) (hB : B T.length = v) (hB2 : ∀ j, j ≠ T.length → B j = A j) : rowJ B (S ++ v :: T).reverse := by
  intro j hj
  have e : (S ++ v :: T).reverse = T.reverse ++ (v :: S.reverse) := by simp
  have hl : j < T.length + 1 + S.length := by simpa [Nat.add_comm, Nat.add_left_comm, Nat.add_assoc] using hj
  rw [e]
  by_cases q1 : j < T.length
  · rw [hB2 j (by omega), h1 j q1, getD_app (by simpa using q1)]
  · rw [getD_appR (by simpa using q1), List.length_reverse]
    by_cases q2 : j = T.length
    · rw [q2, hB, Nat.sub_self]; rfl
    · obtain ⟨m, rfl⟩ : ∃ m, j = T.length + 1 + m := ⟨j - (T.length + 1), by omega⟩
      rw [hB2 _ q2, h2 m (by omega), show T.length + 1 + m - T.length = m + 1 by omega]
      rfl
theorem getD_rev_lastJ (x : Int32) (T : List Int32) : (x :: T).reverse.getD T.length 0 = x := by
  rw [List.reverse_cons, getD_appR (by simp), List.length_reverse, Nat.sub_self]
  rfl
theorem getD_rev_ltJ {x : Int32} {j : Nat} {T : List Int32} (h : j < T.length) : (x :: T).reverse.getD j 0 = T.reverse.getD j 0 := by
  rw [List.reverse_cons, getD_app (by simpa using h)]
theorem TM.wt {S : Nat → Nat → Nat → Prop} (h : TM σ Λ μ) (hD : Dif S μ μ') (hS : ∀ p i k, S p i k → p = 132 ∨ p = 133) : TM σ Λ μ' ∧ gI μ' 50 0 0 = gI μ 50 0 0 ∧ Fm μ μ' := by
  have n1 : ∀ c, c < 40 → mp c ≠ 132 ∧ mp c ≠ 133 := by decide +kernel
  refine ⟨h.go (h.2.1.dif hD ?_) hD (fun p i k q => by have := hS p i k q; omega) ?_ rfl (fun _ => rfl), hD.2 _ _ _ (fun q => by have := hS _ _ _ q; omega), hD.fm fun p i k q => by have := hS p i k q; omega⟩
  · rintro p k ⟨-, c, j, hs, rfl, rfl⟩ q
    rcases hS _ _ _ q with z | z
    · exact (n1 c (sM_lt hs)).1 z
    · exact (n1 c (sM_lt hs)).2 z
  · exact (hD.2 _ _ _ (fun q => by have := hS _ _ _ q; omega)).trans h.2.2.1
def SWt : Nat → Nat → Nat → Prop := fun p _ _ => p = 132 ∨ p = 133
theorem jmin_nI {a b : Nat} (ha : a < 2147483648) (hb : b < 2147483648) : jmin (nI a) (nI b) = nI (min a b) := by
  unfold jmin
  rcases Nat.lt_or_ge b a with q | q
  · rw [if_pos (nI_lt q ha), Nat.min_eq_right (by omega)]
  · rw [if_neg (nI_nlt q hb), Nat.min_eq_left q]
set_option maxRecDepth 8000 in
set_option maxHeartbeats 1000000 in
theorem P_waits {kd_ : Int32} {b : Bool} (hI : TM σ Λ μ) {n : Nat} (hn : σ 34 2 = nI n) (hn2 : n ≤ 120) (h : ∀ μ', TM (pWaits σ kd_ b).1 Λ μ' → Fm μ μ' → gI μ' 50 0 0 = (pWaits σ kd_ b).2.1 → Q (rI (pWaits σ kd_ b).2.2) μ') : Ct RX5 cX5_waits (9, some .int, [], false, rmm 3 0 0) [vr 50 0, vi kd_, vi (bI b)] μ Q := by
  refine Ct.of (ls := [some (vr 50 0), some (vi kd_), some (vi (bI b)), none, none, none, none, none, none]) rfl fun Γ C ad => ?_
  have hT := hI.th (v := 0)
  have hM := hT.1
  have en : tn (σ 34 2) = n := by rw [hn, tn_nI (by omega)]
  unfold pWaits at h
  by_cases h1 : 0 ≤ kd_ ∧ kd_ ≤ 3
  · rw [if_neg (nn h1), waitF, en] at h
    dsimp only at h
    refine z_aload0 dX5_waits_0 (z_iconst (v := 0) dX5_waits_1 (by decide) (z_putI fl_X5_178 dX5_waits_2 rfl rfl ⟨rfl, rfl⟩ (z_aload0 dX5_waits_5 (z_iload1 dX5_waits_6 (z_iconst (v := 0) dX5_waits_7 (by decide) (z_iconst (v := 3) dX5_waits_8 (by decide) (z_invS3 (md_X5_in _) cs_X5_317 dX5_waits_9 rfl (by decide) (Rm.ofB rfl) (M_inT h1 (z_if_ne 19 dX5_waits_12 (by decide) (fun _ => z_iconst (v := 0) dX5_waits_19 (by decide) (z_iconst (v := 1) dX5_waits_20 (by decide) (z_invV2 (md_X5_throwsIf _) cv_X5_321 rfl dX5_waits_21 rfl (by decide) (Rm.ofB rfl) (M_thrF (z_if_eq 29 dX5_waits_24 (by decide) (fun _ => z_iconst (v := 0) dX5_waits_29 (by decide) (z_istore3 dX5_waits_30 (z_iconst (v := 0) dX5_waits_31 (by decide) (z_istore4 dX5_waits_32 ?_)))) (fun c => absurd (rfl) c)))))) (fun c => absurd c (n10)))))))))))
    generalize hμ0 : sI μ 50 0 0 0 = μ0 at *
    have hF0 : Fm μ μ0 := by rw [← hμ0]; exact Fm.rf.sI
    have h00 : gI μ0 50 0 0 = 0 := by rw [← hμ0]; simp [gI_sI]
    have sw : ∀ p i k, SWt p i k → p = 132 ∨ p = 133 := fun _ _ _ q => q
    -- the second row: the waits in order
    have stW : ∀ (l : List Nat) (μ1 : Mem) (o5 o6 o7 o8 : Option AV), l = (gotS σ kd_ n).reverse → Dif SWt μ0 μ1 → rowIs (gI μ1 133 0) l → (∀ x ∈ l, x < n) → l.length ≤ n →
        Z RX5 cX5_waits (9, some .int, [], false, rmm 3 0 0) (Γ, C, μ, ad, Q) 0 0 μ1 141 [some (vr 50 0), some (vi kd_), some (vi (bI b)), some (vi (nI l.length)), some (vi (nI n)), o5, o6, o7, o8] [] := by
      intro l μ1 o5 o6 o7 o8 hl hD1 hrow hln hll
      rw [← hl] at h
      have e20 : jmin 20 (nI l.length) = nI (min 20 l.length) := jmin_nI (a := 20) (by decide) (by omega)
      by_cases hz : min 20 l.length = 0
      · rw [if_pos hz] at h
        refine z_bipush (v := 20) dX5_waits_141 (by decide) (z_iload3 dX5_waits_143 (z_invS2 (md_J11_min _) cs_X5_369 dX5_waits_144 rfl (by decide) (Rm.ofB rfl) (J_min (z_istore4 dX5_waits_147 (z_iload4 dX5_waits_149 (z_if_ne 156 dX5_waits_151 (by decide) (fun c => absurd ((by rw [e20, hz]; rfl)) c) (fun _ => z_iconst (v := (-1)) dX5_waits_154 (by decide) (z_ireturn dX5_waits_155 rfl (by decide) (by decide) ?_))))))))
        obtain ⟨w1, w2, w3⟩ := hT.wt hD1 sw
        exact h μ1 w1 (hF0.tr w3) (w2.trans h00)
      · rw [if_neg hz] at h
        generalize hmany : min 20 l.length = many at *
        have hm20 : many ≤ 20 := by omega
        have hml : many ≤ l.length := by omega
        refine z_bipush (v := 20) dX5_waits_141 (by decide) (z_iload3 dX5_waits_143 (z_invS2 (md_J11_min _) cs_X5_369 dX5_waits_144 rfl (by decide) (Rm.ofB rfl) (J_min (z_istore4 dX5_waits_147 (z_iload4 dX5_waits_149 (z_if_ne 156 dX5_waits_151 (by decide) (fun _ => z_iconst (v := 0) dX5_waits_156 (by decide) (z_istore5 dX5_waits_157 ?_)) (fun c => absurd c ((by rw [e20]; exact nI_ne0 (by omega) (by omega))))))))))
        rw [e20]
        have lp : ∀ k, k ≤ many → ∀ (μ2 : Mem) (o6 o7 o8 : Option AV), Dif SWt μ0 μ2 → rowIs (gI μ2 133 0) l → rowJ (gI μ2 132 0) (waitS σ l many k).reverse →
            Z RX5 cX5_waits (9, some .int, [], false, rmm 3 0 0) (Γ, C, μ, ad, Q) 0 0 μ2 159 [some (vr 50 0), some (vi kd_), some (vi (bI b)), some (vi (nI l.length)), some (vi (nI many)), some (vi (nI k)), o6, o7, o8] [] := by
          refine loopN (P := fun k => ∀ (μ2 : Mem) (o6 o7 o8 : Option AV), Dif SWt μ0 μ2 → rowIs (gI μ2 133 0) l → rowJ (gI μ2 132 0) (waitS σ l many k).reverse →
            Z RX5 cX5_waits (9, some .int, [], false, rmm 3 0 0) (Γ, C, μ, ad, Q) 0 0 μ2 159 [some (vr 50 0), some (vi kd_), some (vi (bI b)), some (vi (nI l.length)), some (vi (nI many)), some (vi (nI k)), o6, o7, o8] []) many ?_ ?_
          · intro μ2 o6 o7 o8 hD2 hr2 hw2
            obtain ⟨w1, w2, w3⟩ := hT.wt hD2 sw
            have hM2 := w1.1
            have h' := h μ2 w1 (hF0.tr w3) (w2.trans h00)
            have hwl : (waitS σ l many many).reverse.length = many := by rw [List.length_reverse, waitS_len]
            have ed : nI many / 10 = nI (many / 10) := pk_div (a := many) (d := 10) (by omega) (by decide) (by decide)
            cases b with
            | true =>
              rw [if_pos rfl] at h'
              have e1 : nI many - 1 - nI many / 10 = nI (many - 1 - many / 10) := by
                rw [ed]
                have : ∀ m, m ≤ 20 → 0 < m → nI m - 1 - nI (m / 10) = nI (m - 1 - m / 10) := by decide +kernel
                exact this many hm20 (by omega)
              refine z_iload5 dX5_waits_159 (z_iload4 dX5_waits_161 (z_icmp_ge 257 dX5_waits_163 (by decide) (fun _ => z_iload2 dX5_waits_257 (z_if_eq 279 dX5_waits_258 (by decide) (fun c => absurd c (n10)) (fun _ => z_aload0 dX5_waits_261 (z_getP (v := some (132, 0)) fl_X5_172 dX5_waits_262 rfl rfl (hM2 81 rfl) (z_iload4 dX5_waits_265 (z_iconst (v := 1) dX5_waits_267 (by decide) (z_isub dX5_waits_268 (z_iload4 dX5_waits_269 (z_bipush (v := 10) dX5_waits_271 (by decide) (z_idiv dX5_waits_273 (by decide) (z_isub dX5_waits_274 (z_ialdv dX5_waits_275 rfl ⟨e1, (show many - 1 - many / 10 < 120 by omega), Nat.le_of_ble_eq_true rfl⟩ (hw2 (many - 1 - many / 10) (by omega)) (z_goto 289 dX5_waits_276 (by decide) (z_ireturn dX5_waits_289 rfl (by decide) (by decide) ?_)))))))))))))) (fun c => absurd (lpt (n := many) rfl) c)))
              exact h'
            | false =>
              rw [if_neg (by decide)] at h'
              refine z_iload5 dX5_waits_159 (z_iload4 dX5_waits_161 (z_icmp_ge 257 dX5_waits_163 (by decide) (fun _ => z_iload2 dX5_waits_257 (z_if_eq 279 dX5_waits_258 (by decide) (fun _ => z_aload0 dX5_waits_279 (z_getP (v := some (132, 0)) fl_X5_172 dX5_waits_280 rfl rfl (hM2 81 rfl) (z_iload4 dX5_waits_283 (z_bipush (v := 10) dX5_waits_285 (by decide) (z_idiv dX5_waits_287 (by decide) (z_ialdv dX5_waits_288 rfl ⟨ed, (show many / 10 < 120 by omega), Nat.le_of_ble_eq_true rfl⟩ (hw2 (many / 10) (by omega)) (z_ireturn dX5_waits_289 rfl (by decide) (by decide) ?_))))))) (fun c => absurd (rfl) c))) (fun c => absurd (lpt (n := many) rfl) c)))
              exact h'
          · intro k hk ih μ2 o6 o7 o8 hD2 hr2 hw2
            obtain ⟨w1, w2, w3⟩ := hT.wt hD2 sw
            have hR2 := w1.2.1
            have hM2 := w1.1
            have ei : nI l.length - nI many + nI k = nI (l.length - many + k) := by
              have : nI l.length - nI many = nI (l.length - many) := by
                have e : l.length = (l.length - many) + many := by omega
                rw [e, ← nI_add, Int32.add_sub_cancel, show l.length - many + many - many = l.length - many by omega]
              rw [this, nI_add]
            have hix : l.length - many + k < l.length := by omega
            have ea := hr2 (l.length - many + k) hix
            rw [waitS] at ih
            generalize hva : l.getD (l.length - many + k) 0 = a at *
            have han : a < n := by rw [← hva]; exact hln _ (getD_mem hix)
            generalize hvv : σ 3 a - σ 14 a = v at *
            have hwlen := waitS_len σ l many k
            have fin : ∀ (T S : List Int32) (μ3 : Mem), waitS σ l many k = S ++ T → insI v (waitS σ l many k) = S ++ v :: T → Dif SWt μ0 μ3 → rowIs (gI μ3 133 0) l → (∀ j, j < T.length → gI μ3 132 0 j = T.reverse.getD j 0) → (∀ j, j < S.length → gI μ3 132 0 (T.length + 1 + j) = S.reverse.getD j 0) → Z RX5 cX5_waits (9, some .int, [], false, rmm 3 0 0) (Γ, C, μ, ad, Q) (0) (0) (μ3) 242 [some (vr 50 0), some (vi kd_), some (vi (bI b)), some (vi (nI l.length)), some (vi (nI many)), some (vi (nI k)), some (vi (nI a)), some (vi v), some (vi (nI T.length))] [] := by
              intro T S μ3 e1 e2 hD3 hr3 g1 g2
              have hTl : T.length < 120 := by
                have := congrArg List.length e1
                rw [List.length_append] at this
                omega
              have hM3 : MOK μ3 := hM.of hD3.1
              refine z_aload0 dX5_waits_242 (z_getP (v := some (132, 0)) fl_X5_172 dX5_waits_243 rfl rfl (hM3 81 rfl) (z_iload8 dX5_waits_246 (z_iload7 dX5_waits_248 (z_iast dX5_waits_250 rfl ⟨rfl, hTl, Nat.le_of_ble_eq_true rfl⟩ (z_iinc5 dX5_waits_251 (inc1 k) (z_goto 159 dX5_waits_254 (by decide) ?_))))))
              refine ih _ _ _ _ (hD3.tr (Dif.sI (Or.inl rfl))) (fun j hj => by rw [gI_sI, if_neg (by simp)]; exact hr3 j hj) ?_
              rw [e2]
              exact rowJ_fin g1 g2 (by rw [gI_sI, if_pos ⟨rfl, rfl, rfl⟩]) (fun j hj => by rw [gI_sI, if_neg (fun q => hj q.2.2)])
            have inner : ∀ (T S : List Int32) (μ3 : Mem), waitS σ l many k = S ++ T → insI v (waitS σ l many k) = S ++ insI v T → Dif SWt μ0 μ3 → rowIs (gI μ3 133 0) l → (∀ j, j < T.length → gI μ3 132 0 j = T.reverse.getD j 0) → (∀ j, j < S.length → gI μ3 132 0 (T.length + 1 + j) = S.reverse.getD j 0) → Z RX5 cX5_waits (9, some .int, [], false, rmm 3 0 0) (Γ, C, μ, ad, Q) (0) (0) (μ3) 201 [some (vr 50 0), some (vi kd_), some (vi (bI b)), some (vi (nI l.length)), some (vi (nI many)), some (vi (nI k)), some (vi (nI a)), some (vi v), some (vi (nI T.length))] [] := by
              intro T
              induction T with
              | nil =>
                intro S μ3 e1 e2 hD3 hr3 g1 g2
                refine z_iload8 dX5_waits_201 (z_if_le 242 dX5_waits_203 (by decide) (fun _ => ?_) (fun c => absurd ((by decide : nI ([] : List Int32).length ≤ 0)) c))
                exact fin [] S μ3 e1 e2 hD3 hr3 g1 g2
              | cons x T ihT =>
                intro S μ3 e1 e2 hD3 hr3 g1 g2
                have hlen : S.length + (T.length + 1) = k := by
                  have := congrArg List.length e1
                  rw [List.length_append, List.length_cons] at this
                  omega
                have hM3 : MOK μ3 := hM.of hD3.1
                have ex : gI μ3 132 0 T.length = x := (g1 T.length (Nat.lt_succ_self _)).trans (by rw [getD_rev_lastJ])
                have e2' : insI v (waitS σ l many k) = S ++ (if v < x then x :: insI v T else v :: x :: T) := e2
                refine z_iload8 dX5_waits_201 (z_if_le 242 dX5_waits_203 (by decide) (fun c => absurd c (nI_nle (n := T.length + 1) (by omega) (by omega))) (fun _ => z_aload0 dX5_waits_206 (z_getP (v := some (132, 0)) fl_X5_172 dX5_waits_207 rfl rfl (hM3 81 rfl) (z_iload8 dX5_waits_210 (z_iconst (v := 1) dX5_waits_212 (by decide) (z_isub dX5_waits_213 (z_ialdv dX5_waits_214 rfl ⟨nI_pred T.length, (show T.length < 120 by omega), Nat.le_of_ble_eq_true rfl⟩ (ex) (z_iload7 dX5_waits_215 (z_icmp_le 242 dX5_waits_217 (by decide) (fun c_217 => ?_) (fun c_217 => ?_))))))))))
                · rw [if_neg (Int32.not_lt.mpr c_217)] at e2'
                  exact fin (x :: T) S μ3 e1 e2' hD3 hr3 g1 g2
                · rw [if_pos (Int32.not_le.mp c_217)] at e2'
                  refine z_aload0 dX5_waits_220 (z_getP (v := some (132, 0)) fl_X5_172 dX5_waits_221 rfl rfl (hM3 81 rfl) (z_iload8 dX5_waits_224 (z_aload0 dX5_waits_226 (z_getP (v := some (132, 0)) fl_X5_172 dX5_waits_227 rfl rfl (hM3 81 rfl) (z_iload8 dX5_waits_230 (z_iconst (v := 1) dX5_waits_232 (by decide) (z_isub dX5_waits_233 (z_ialdv dX5_waits_234 rfl ⟨nI_pred T.length, (show T.length < 120 by omega), Nat.le_of_ble_eq_true rfl⟩ (ex) (z_iast dX5_waits_235 rfl ⟨rfl, (show T.length + 1 < 120 by omega), Nat.le_of_ble_eq_true rfl⟩ (z_iinc8 dX5_waits_236 (dec1 T.length) (z_goto 201 dX5_waits_239 (by decide) ?_)))))))))))
                  refine ihT (S ++ [x]) _ (by rw [e1, List.append_assoc]; rfl) (by rw [e2', List.append_assoc]; rfl) (hD3.tr (Dif.sI (Or.inl rfl))) (fun j hj => by rw [gI_sI, if_neg (by simp)]; exact hr3 j hj) (fun j hj => ?_) (fun j hj => ?_)
                  · rw [gI_sI, if_neg (fun q => by have := q.2.2; rw [List.length_cons] at this; omega), g1 j (by rw [List.length_cons]; omega), getD_rev_ltJ hj]
                  · rw [List.reverse_append, List.reverse_singleton]
                    cases j with
                    | zero => rw [gI_sI, if_pos ⟨rfl, rfl, rfl⟩]; rfl
                    | succ j =>
                      rw [gI_sI, if_neg (fun q => by have := q.2.2; rw [List.length_cons] at this; omega)]
                      have := g2 j (by rw [List.length_append, List.length_singleton] at hj; omega)
                      rw [List.length_cons, show T.length + 1 + 1 + j = T.length + 1 + (j + 1) by omega] at this
                      rw [this]
                      rfl
            refine z_iload5 dX5_waits_159 (z_iload4 dX5_waits_161 (z_icmp_ge 257 dX5_waits_163 (by decide) (fun c => absurd c (lpf (n := many) rfl hk (by omega))) (fun _ => z_aload0 dX5_waits_166 (z_getP (v := some (133, 0)) fl_X5_175 dX5_waits_167 rfl rfl (hM2 82 rfl) (z_iload3 dX5_waits_170 (z_iload4 dX5_waits_171 (z_isub dX5_waits_173 (z_iload5 dX5_waits_174 (z_iadd dX5_waits_176 (z_ialdv dX5_waits_177 rfl ⟨ei, (show l.length - many + k < 120 by omega), Nat.le_of_ble_eq_true rfl⟩ (ea) (z_istore6 dX5_waits_178 (z_aload0 dX5_waits_180 (z_iload6 dX5_waits_181 (z_iconst (v := 3) dX5_waits_183 (by decide) (z_invV2 (md_X5_now _) cv_X5_434 rfl dX5_waits_184 rfl (by decide) (Rm.ofB rfl) (M_nowv (w := 3) hM2 rfl rfl (by omega) (hR2.col 3 a (by decide)) (z_aload0 dX5_waits_187 (z_getP (v := some (106, 0)) fl_X5_118 dX5_waits_188 rfl rfl (hM2 55 rfl) (z_iload6 dX5_waits_191 (z_ialdv dX5_waits_193 rfl ⟨rfl, (show a < 120 by omega), Nat.le_of_ble_eq_true rfl⟩ (hR2.col 14 _ (by decide)) (z_isub dX5_waits_194 (z_istore7 dX5_waits_195 (z_iload5 dX5_waits_197 (z_istore8 dX5_waits_199 ?_))))))))))))))))))))))))
            rw [hvv]
            have := inner _ [] μ2 rfl rfl hD2 hr2 (fun j hj => hw2 j (by rw [List.length_reverse]; exact hj)) (fun j hj => absurd hj (Nat.not_lt_zero _))
            rw [hwlen] at this
            exact this
        exact lp 0 (Nat.zero_le _) μ1 _ _ _ hD1 hrow (fun j hj => absurd hj (Nat.not_lt_zero _))
    -- the first row: those got
    have go : ∀ k, k ≤ n → ∀ (μ' : Mem) (o5 o6 o7 o8 : Option AV), Dif SWt μ0 μ' → rowIs (gI μ' 133 0) (gotS σ kd_ k).reverse →
        Z RX5 cX5_waits (9, some .int, [], false, rmm 3 0 0) (Γ, C, μ, ad, Q) 0 0 μ' 34 [some (vr 50 0), some (vi kd_), some (vi (bI b)), some (vi (nI (gotS σ kd_ k).length)), some (vi (nI k)), o5, o6, o7, o8] [] := by
      refine loopN (P := fun k => ∀ (μ' : Mem) (o5 o6 o7 o8 : Option AV), Dif SWt μ0 μ' → rowIs (gI μ' 133 0) (gotS σ kd_ k).reverse →
        Z RX5 cX5_waits (9, some .int, [], false, rmm 3 0 0) (Γ, C, μ, ad, Q) 0 0 μ' 34 [some (vr 50 0), some (vi kd_), some (vi (bI b)), some (vi (nI (gotS σ kd_ k).length)), some (vi (nI k)), o5, o6, o7, o8] []) n ?_ ?_
      · intro μ' o5 o6 o7 o8 hD hr
        have hR' := (hT.wt hD sw).1.2.1
        refine z_iload4 dX5_waits_34 (z_aload0 dX5_waits_36 (z_getIv fl_X5_412 dX5_waits_37 rfl rfl (hR'.s34 2 (by decide)) (z_icmp_ge 141 dX5_waits_40 (by decide) (fun _ => ?_) (fun c => absurd (lpt hn) c))))
        have := stW _ μ' o5 o6 o7 o8 rfl hD hr (fun x hx => gotS_lt σ kd_ n x (List.mem_reverse.mp hx)) (by rw [List.length_reverse]; exact gotS_len σ kd_ n)
        rw [List.length_reverse] at this
        exact this
      · intro k hk ih μ' o5 o6 o7 o8 hD hr
        have hT' := (hT.wt hD sw).1
        have hR' := hT'.2.1
        have hM' := hT'.1
        rw [gotS] at ih
        have k120 : k < 120 := by omega
        by_cases q1 : σ 13 k = kd_
        · by_cases q2 : σ 0 k = 7
          · rw [if_pos ⟨q1, q2⟩] at ih
            have hlen := gotS_len σ kd_ k
            have fin : ∀ (T S : List Nat) (μ2 : Mem), gotS σ kd_ k = S ++ T → insR (fun a b => decide (σ 3 a < σ 3 b)) k (gotS σ kd_ k) = S ++ k :: T → Dif SWt μ0 μ2 → (∀ j, j < T.length → gI μ2 133 0 j = nI (T.reverse.getD j 0)) → (∀ j, j < S.length → gI μ2 133 0 (T.length + 1 + j) = nI (S.reverse.getD j 0)) →
                Z RX5 cX5_waits (9, some .int, [], false, rmm 3 0 0) (Γ, C, μ, ad, Q) 0 0 μ2 123 [some (vr 50 0), some (vi kd_), some (vi (bI b)), some (vi (nI (gotS σ kd_ k).length)), some (vi (nI k)), some (vi (nI T.length)), o6, o7, o8] [] := by
              intro T S μ2 e1 e2 hD2 g1 g2
              have hTl : T.length < 120 := by
                have := congrArg List.length e1
                rw [List.length_append] at this
                omega
              have hM2 : MOK μ2 := hM.of hD2.1
              refine z_aload0 dX5_waits_123 (z_getP (v := some (133, 0)) fl_X5_175 dX5_waits_124 rfl rfl (hM2 82 rfl) (z_iload5 dX5_waits_127 (z_iload4 dX5_waits_129 (z_iast dX5_waits_131 rfl ⟨rfl, hTl, Nat.le_of_ble_eq_true rfl⟩ (z_iinc3 dX5_waits_132 (inc1 _) (z_iinc4 dX5_waits_135 (inc1 k) (z_goto 34 dX5_waits_138 (by decide) ?_)))))))
              rw [insR_len] at ih
              refine ih _ _ _ _ _ (hD2.tr (Dif.sI (Or.inr rfl))) ?_
              rw [e2]
              exact rowIs_fin g1 g2 (by rw [gI_sI, if_pos ⟨rfl, rfl, rfl⟩]) (fun j hj => by rw [gI_sI, if_neg (fun q => hj q.2.2)])
            have inner : ∀ (T S : List Nat) (μ2 : Mem), gotS σ kd_ k = S ++ T → insR (fun a b => decide (σ 3 a < σ 3 b)) k (gotS σ kd_ k) = S ++ insR (fun a b => decide (σ 3 a < σ 3 b)) k T → Dif SWt μ0 μ2 → (∀ j, j < T.length → gI μ2 133 0 j = nI (T.reverse.getD j 0)) → (∀ j, j < S.length → gI μ2 133 0 (T.length + 1 + j) = nI (S.reverse.getD j 0)) →
                Z RX5 cX5_waits (9, some .int, [], false, rmm 3 0 0) (Γ, C, μ, ad, Q) 0 0 μ2 72 [some (vr 50 0), some (vi kd_), some (vi (bI b)), some (vi (nI (gotS σ kd_ k).length)), some (vi (nI k)), some (vi (nI T.length)), o6, o7, o8] [] := by
              intro T
              induction T with
              | nil =>
                intro S μ2 e1 e2 hD2 g1 g2
                refine z_iload5 dX5_waits_72 (z_if_le 123 dX5_waits_74 (by decide) (fun _ => ?_) (fun c => absurd ((by decide : nI ([] : List Nat).length ≤ 0)) c))
                exact fin [] S μ2 e1 e2 hD2 g1 g2
              | cons x T ihT =>
                intro S μ2 e1 e2 hD2 g1 g2
                have hxm : x ∈ gotS σ kd_ k := by rw [e1]; exact List.mem_append_right _ List.mem_cons_self
                have hx := gotS_lt σ kd_ k x hxm
                have hl : S.length + (T.length + 1) ≤ k := by
                  have := congrArg List.length e1
                  rw [List.length_append, List.length_cons] at this
                  omega
                have hT2 := (hT.wt hD2 sw).1
                have hR2 := hT2.2.1
                have hM2 := hT2.1
                have ex : gI μ2 133 0 T.length = nI x := (g1 T.length (Nat.lt_succ_self _)).trans (by rw [getD_rev_last])
                have e2' : insR (fun a b => decide (σ 3 a < σ 3 b)) k (gotS σ kd_ k) = S ++ (if decide (σ 3 k < σ 3 x) then x :: insR (fun a b => decide (σ 3 a < σ 3 b)) k T else k :: x :: T) := e2
                refine z_iload5 dX5_waits_72 (z_if_le 123 dX5_waits_74 (by decide) (fun c => absurd c (nI_nle (n := T.length + 1) (by omega) (by omega))) (fun _ => z_aload0 dX5_waits_77 (z_aload0 dX5_waits_78 (z_getP (v := some (133, 0)) fl_X5_175 dX5_waits_79 rfl rfl (hM2 82 rfl) (z_iload5 dX5_waits_82 (z_iconst (v := 1) dX5_waits_84 (by decide) (z_isub dX5_waits_85 (z_ialdv dX5_waits_86 rfl ⟨nI_pred T.length, (show T.length < 120 by omega), Nat.le_of_ble_eq_true rfl⟩ (ex) (z_iconst (v := 3) dX5_waits_87 (by decide) (z_invV2 (md_X5_now _) cv_X5_434 rfl dX5_waits_88 rfl (by decide) (Rm.ofB rfl) (M_nowv (w := 3) hM2 rfl rfl (by omega) (hR2.col 3 x (by decide)) (z_aload0 dX5_waits_91 (z_iload4 dX5_waits_92 (z_iconst (v := 3) dX5_waits_94 (by decide) (z_invV2 (md_X5_now _) cv_X5_434 rfl dX5_waits_95 rfl (by decide) (Rm.ofB rfl) (M_nowv (w := 3) hM2 rfl rfl (by omega) (hR2.col 3 k (by decide)) (z_icmp_le 123 dX5_waits_98 (by decide) (fun c_98 => ?_) (fun c_98 => ?_))))))))))))))))))
                · rw [decide_eq_false (Int32.not_lt.mpr c_98)] at e2'
                  exact fin (x :: T) S μ2 e1 e2' hD2 g1 g2
                · rw [decide_eq_true (Int32.not_le.mp c_98), if_pos rfl] at e2'
                  refine z_aload0 dX5_waits_101 (z_getP (v := some (133, 0)) fl_X5_175 dX5_waits_102 rfl rfl (hM2 82 rfl) (z_iload5 dX5_waits_105 (z_aload0 dX5_waits_107 (z_getP (v := some (133, 0)) fl_X5_175 dX5_waits_108 rfl rfl (hM2 82 rfl) (z_iload5 dX5_waits_111 (z_iconst (v := 1) dX5_waits_113 (by decide) (z_isub dX5_waits_114 (z_ialdv dX5_waits_115 rfl ⟨nI_pred T.length, (show T.length < 120 by omega), Nat.le_of_ble_eq_true rfl⟩ (ex) (z_iast dX5_waits_116 rfl ⟨rfl, (show T.length + 1 < 120 by omega), Nat.le_of_ble_eq_true rfl⟩ (z_iinc5 dX5_waits_117 (dec1 T.length) (z_goto 72 dX5_waits_120 (by decide) ?_)))))))))))
                  refine ihT (S ++ [x]) _ (by rw [e1, List.append_assoc]; rfl) (by rw [e2', List.append_assoc]; rfl) (hD2.tr (Dif.sI (Or.inr rfl))) (fun j hj => ?_) (fun j hj => ?_)
                  · rw [gI_sI, if_neg (fun q => by have := q.2.2; rw [List.length_cons] at this; omega), g1 j (by rw [List.length_cons]; omega), getD_rev_lt hj]
                  · rw [List.reverse_append, List.reverse_singleton]
                    cases j with
                    | zero => rw [gI_sI, if_pos ⟨rfl, rfl, rfl⟩]; rfl
                    | succ j =>
                      rw [gI_sI, if_neg (fun q => by have := q.2.2; rw [List.length_cons] at this; omega)]
                      have := g2 j (by rw [List.length_append, List.length_singleton] at hj; omega)
                      rw [List.length_cons, show T.length + 1 + 1 + j = T.length + 1 + (j + 1) by omega] at this
                      rw [this]
                      rfl
            refine z_iload4 dX5_waits_34 (z_aload0 dX5_waits_36 (z_getIv fl_X5_412 dX5_waits_37 rfl rfl (hR'.s34 2 (by decide)) (z_icmp_ge 141 dX5_waits_40 (by decide) (fun c => absurd c (lpf hn hk (by omega))) (fun _ => z_aload0 dX5_waits_43 (z_getP (v := some (105, 0)) fl_X5_115 dX5_waits_44 rfl rfl (hM' 54 rfl) (z_iload4 dX5_waits_47 (z_ialdv dX5_waits_49 rfl ⟨rfl, k120, Nat.le_of_ble_eq_true rfl⟩ (hR'.col 13 _ (by decide)) (z_iload1 dX5_waits_50 (z_icmp_ne 135 dX5_waits_51 (by decide) (fun c => absurd (q1) c) (fun _ => z_aload0 dX5_waits_54 (z_iload4 dX5_waits_55 (z_iconst (v := 0) dX5_waits_57 (by decide) (z_invV2 (md_X5_now _) cv_X5_434 rfl dX5_waits_58 rfl (by decide) (Rm.ofB rfl) (M_nowv (w := 0) hM' rfl rfl (by omega) (hR'.col 0 k (by decide)) (z_bipush (v := 7) dX5_waits_61 (by decide) (z_icmp_eq 69 dX5_waits_63 (by decide) (fun _ => z_iload3 dX5_waits_69 (z_istore5 dX5_waits_70 ?_)) (fun c => absurd (q2) c)))))))))))))))))
            exact inner _ [] μ' rfl rfl hD (fun j hj => hr j (by rw [List.length_reverse]; exact hj)) (fun j hj => absurd hj (Nat.not_lt_zero _))
          · rw [if_neg (fun q => q2 q.2)] at ih
            refine z_iload4 dX5_waits_34 (z_aload0 dX5_waits_36 (z_getIv fl_X5_412 dX5_waits_37 rfl rfl (hR'.s34 2 (by decide)) (z_icmp_ge 141 dX5_waits_40 (by decide) (fun c => absurd c (lpf hn hk (by omega))) (fun _ => z_aload0 dX5_waits_43 (z_getP (v := some (105, 0)) fl_X5_115 dX5_waits_44 rfl rfl (hM' 54 rfl) (z_iload4 dX5_waits_47 (z_ialdv dX5_waits_49 rfl ⟨rfl, k120, Nat.le_of_ble_eq_true rfl⟩ (hR'.col 13 _ (by decide)) (z_iload1 dX5_waits_50 (z_icmp_ne 135 dX5_waits_51 (by decide) (fun c => absurd (q1) c) (fun _ => z_aload0 dX5_waits_54 (z_iload4 dX5_waits_55 (z_iconst (v := 0) dX5_waits_57 (by decide) (z_invV2 (md_X5_now _) cv_X5_434 rfl dX5_waits_58 rfl (by decide) (Rm.ofB rfl) (M_nowv (w := 0) hM' rfl rfl (by omega) (hR'.col 0 k (by decide)) (z_bipush (v := 7) dX5_waits_61 (by decide) (z_icmp_eq 69 dX5_waits_63 (by decide) (fun c => absurd c (q2)) (fun _ => z_goto 135 dX5_waits_66 (by decide) (z_iinc4 dX5_waits_135 (inc1 k) (z_goto 34 dX5_waits_138 (by decide) ?_)))))))))))))))))))
            exact ih μ' _ _ _ _ hD hr
        · rw [if_neg (fun q => q1 q.1)] at ih
          refine z_iload4 dX5_waits_34 (z_aload0 dX5_waits_36 (z_getIv fl_X5_412 dX5_waits_37 rfl rfl (hR'.s34 2 (by decide)) (z_icmp_ge 141 dX5_waits_40 (by decide) (fun c => absurd c (lpf hn hk (by omega))) (fun _ => z_aload0 dX5_waits_43 (z_getP (v := some (105, 0)) fl_X5_115 dX5_waits_44 rfl rfl (hM' 54 rfl) (z_iload4 dX5_waits_47 (z_ialdv dX5_waits_49 rfl ⟨rfl, k120, Nat.le_of_ble_eq_true rfl⟩ (hR'.col 13 _ (by decide)) (z_iload1 dX5_waits_50 (z_icmp_ne 135 dX5_waits_51 (by decide) (fun _ => z_iinc4 dX5_waits_135 (inc1 k) (z_goto 34 dX5_waits_138 (by decide) ?_)) (fun c => absurd c (q1)))))))))))
          exact ih μ' _ _ _ _ hD hr
    exact go 0 (Nat.zero_le _) μ0 _ _ _ _ Dif.rf (fun j hj => absurd hj (Nat.not_lt_zero _))
  · rw [if_pos h1] at h
    refine z_aload0 dX5_waits_0 (z_iconst (v := 0) dX5_waits_1 (by decide) (z_putI fl_X5_178 dX5_waits_2 rfl rfl ⟨rfl, rfl⟩ (z_aload0 dX5_waits_5 (z_iload1 dX5_waits_6 (z_iconst (v := 0) dX5_waits_7 (by decide) (z_iconst (v := 3) dX5_waits_8 (by decide) (z_invS3 (md_X5_in _) cs_X5_317 dX5_waits_9 rfl (by decide) (Rm.ofB rfl) (M_inF h1 (z_if_ne 19 dX5_waits_12 (by decide) (fun c => absurd (rfl) c) (fun _ => z_iconst (v := 1) dX5_waits_15 (by decide) (z_goto 20 dX5_waits_16 (by decide) (z_iconst (v := 1) dX5_waits_20 (by decide) (z_invV2 (md_X5_throwsIf _) cv_X5_321 rfl dX5_waits_21 rfl (by decide) (Rm.ofB rfl) (M_thrT (z_if_eq 29 dX5_waits_24 (by decide) (fun c => absurd c (n10)) (fun _ => z_iconst (v := 0) dX5_waits_27 (by decide) (z_ireturn dX5_waits_28 rfl (by decide) (by decide) ?_)))))))))))))))))
    exact h _ hT.th (Fm.rf.sI.sI) (by simp [gI_sI])
end M13
