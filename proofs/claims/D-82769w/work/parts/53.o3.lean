/-! the order of a line; who is ahead -/
def kU (σ : Sg) (a : Nat) : Int := (σ 16 a).toInt
def kT (σ : Sg) (r : Int32) (a : Nat) : Int := if r = 2 then (if tickB σ a then 1 else 0) else 0
def kV (σ : Sg) (r : Int32) (a : Nat) : Int := if r = 0 then (σ 14 a).toInt else (σ 15 a).toInt
theorem kT0 (σ : Sg) (a : Nat) : kT σ 0 a = 0 := if_neg (by decide)
theorem kT1 (σ : Sg) (a : Nat) : kT σ 1 a = 0 := if_neg (by decide)
theorem kT2 (σ : Sg) (a : Nat) : kT σ 2 a = if tickB σ a then 1 else 0 := if_pos rfl
theorem kV0 (σ : Sg) (a : Nat) : kV σ 0 a = (σ 14 a).toInt := if_pos rfl
theorem kV1 (σ : Sg) (a : Nat) : kV σ 1 a = (σ 15 a).toInt := if_neg (by decide)
theorem kV2 (σ : Sg) (a : Nat) : kV σ 2 a = (σ 15 a).toInt := if_neg (by decide)
theorem ti_eq {x y : Int32} : x = y ↔ x.toInt = y.toInt := ⟨fun q => by rw [q], fun q => Int32.toInt_inj.mp q⟩
theorem ah_key {σ : Sg} {r : Int32} {a b : Nat} (hr : r = 0 ∨ r = 1 ∨ r = 2) (ha : σ 16 a = 0 ∨ σ 16 a = 1) (hb : σ 16 b = 0 ∨ σ 16 b = 1) :
    aheadB σ r a b = true ↔ kU σ b < kU σ a ∨ (kU σ a = kU σ b ∧ (kT σ r b < kT σ r a ∨ (kT σ r a = kT σ r b ∧ (kV σ r a < kV σ r b ∨ (kV σ r a = kV σ r b ∧ a < b))))) := by
  have eu : σ 16 a = σ 16 b ↔ kU σ a = kU σ b := ti_eq
  unfold aheadB
  by_cases h1 : σ 16 a = σ 16 b
  · have k1 := eu.mp h1
    rw [if_neg (fun q => q h1)]
    rcases hr with hr | hr | hr
    · rw [hr, kT0, kT0, kV0, kV0]
      by_cases h2 : σ 14 a = σ 14 b
      · rw [if_neg (fun q => q.2 h2), if_neg (fun q => absurd q.1 (by decide)), if_neg (fun q => absurd q.1 (by decide)), decide_eq_true_eq]
        have := ti_eq.mp h2
        omega
      · rw [if_pos ⟨rfl, h2⟩, decide_eq_true_eq, ti_lt]
        have h3 : ¬ (σ 14 a).toInt = (σ 14 b).toInt := fun q => h2 (ti_eq.mpr q)
        omega
    · rw [hr, kT1, kT1, kV1, kV1]
      rw [if_neg (fun q => absurd q.1 (by decide)), if_neg (fun q => absurd q.1 (by decide))]
      by_cases h2 : σ 15 a = σ 15 b
      · rw [if_neg (fun q => q.2 h2), decide_eq_true_eq]
        have := ti_eq.mp h2
        omega
      · rw [if_pos ⟨by decide, h2⟩, decide_eq_true_eq, ti_lt]
        have h3 : ¬ (σ 15 a).toInt = (σ 15 b).toInt := fun q => h2 (ti_eq.mpr q)
        omega
    · rw [hr, kT2, kT2, kV2, kV2]
      rw [if_neg (fun q => absurd q.1 (by decide))]
      by_cases h4 : tickB σ a = tickB σ b
      · rw [if_neg (fun q => q.2 h4), h4]
        by_cases h2 : σ 15 a = σ 15 b
        · rw [if_neg (fun q => q.2 h2), decide_eq_true_eq]
          have := ti_eq.mp h2
          omega
        · rw [if_pos ⟨by decide, h2⟩, decide_eq_true_eq, ti_lt]
          have h3 : ¬ (σ 15 a).toInt = (σ 15 b).toInt := fun q => h2 (ti_eq.mpr q)
          omega
      · rw [if_pos ⟨rfl, h4⟩]
        cases qa : tickB σ a <;> cases qb : tickB σ b
        · exact absurd (qa.trans qb.symm) h4
        · simp
          omega
        · simp
          omega
        · exact absurd (qa.trans qb.symm) h4
  · have k1 : ¬ kU σ a = kU σ b := fun q => h1 (eu.mpr q)
    rw [if_pos h1, decide_eq_true_eq]
    have u0 : ∀ c, σ 16 c = 0 → kU σ c = 0 := fun c q => by unfold kU; rw [q]; rfl
    have u1 : ∀ c, σ 16 c = 1 → kU σ c = 1 := fun c q => by unfold kU; rw [q]; rfl
    rcases ha with q | q <;> rcases hb with q' | q'
    · exact absurd (q.trans q'.symm) h1
    · have := u0 a q
      have := u1 b q'
      exact ⟨fun z => absurd q z, fun z => by omega⟩
    · have := u1 a q
      have := u0 b q'
      exact ⟨fun z => Or.inl (by omega), fun z => by rw [q]; decide⟩
    · exact absurd (q.trans q'.symm) h1
def Srt (lt : Nat → Nat → Bool) : List Nat → Prop
  | [] => True
  | x :: t => (∀ y ∈ t, lt y x = true) ∧ Srt lt t
theorem Srt.ins {lt : Nat → Nat → Bool} {G : Nat → Prop} (ht : ∀ a b c, G a → G b → G c → lt a b = true → lt b c = true → lt a c = true) (htot : ∀ a b, G a → G b → a ≠ b → lt a b = false → lt b a = true) {k : Nat} (hk : G k) :
    ∀ l : List Nat, (∀ x ∈ l, G x ∧ x ≠ k) → Srt lt l → Srt lt (insR lt k l)
  | [], _, _ => ⟨fun _ h => absurd h (List.not_mem_nil), trivial⟩
  | x :: t, hG, hs => by
    obtain ⟨gx, xk⟩ := hG x List.mem_cons_self
    rw [insR]
    split
    · rename_i q
      refine ⟨fun y hy => ?_, Srt.ins ht htot hk t (fun z hz => hG z (List.mem_cons_of_mem _ hz)) hs.2⟩
      rcases (insR_mem lt k y t).mp hy with rfl | hy
      · exact q
      · exact hs.1 y hy
    · rename_i q
      have hxk : lt x k = true := htot k x hk gx (Ne.symm xk) (by cases z : lt k x with | true => exact absurd z q | false => rfl)
      refine ⟨fun y hy => ?_, hs⟩
      rcases List.mem_cons.mp hy with rfl | hy
      · exact hxk
      · exact ht y x k (hG y (List.mem_cons_of_mem _ hy)).1 gx hk (hs.1 y hy) hxk
theorem Srt.app {lt : Nat → Nat → Bool} {a : Nat} {T : List Nat} : ∀ {S : List Nat}, Srt lt (S ++ a :: T) → (∀ y ∈ T, lt y a = true) ∧ ∀ s ∈ S, lt a s = true
  | [], h => ⟨h.1, fun _ q => absurd q List.not_mem_nil⟩
  | x :: S, h => by
    obtain ⟨h1, h2⟩ := Srt.app (S := S) h.2
    refine ⟨h1, fun s hs => ?_⟩
    rcases List.mem_cons.mp hs with rfl | hs
    · exact h.1 a (List.mem_append_right _ List.mem_cons_self)
    · exact h2 s hs
theorem flt_ins {lt : Nat → Nat → Bool} {p : Nat → Bool} {k : Nat} : ∀ l : List Nat, ((insR lt k l).filter p).length = (l.filter p).length + (if p k then 1 else 0)
  | [] => by
    rw [insR]
    cases h : p k <;> simp [h]
  | x :: t => by
    rw [insR]
    split
    · have := flt_ins (lt := lt) (p := p) (k := k) t
      cases h : p x
      · rw [List.filter_cons_of_neg (by simp [h]), List.filter_cons_of_neg (by simp [h])]; exact this
      · rw [List.filter_cons_of_pos h, List.filter_cons_of_pos h, List.length_cons, List.length_cons, this]; omega
    · cases h : p k
      · rw [List.filter_cons_of_neg (by simp [h])]; simp
      · rw [List.filter_cons_of_pos h, List.length_cons]; simp
theorem cnt_line {σ : Sg} {d r : Int32} {a : Nat} : ∀ k, cntB (fun b => decide (b ≠ a) && decide (σ 0 b = stAt d) && aheadB σ r b a) k = nI ((lineS σ d r k).filter (fun b => decide (b ≠ a) && aheadB σ r b a)).length
  | 0 => rfl
  | k + 1 => by
    rw [cntB, lineS, cnt_line k]
    by_cases h : σ 0 k = stAt d
    · rw [if_pos h, flt_ins, decide_eq_true h, Bool.and_true]
      split
      · rw [nI_1]
      · rw [Int32.add_zero]; rfl
    · rw [if_neg h, decide_eq_false h, Bool.and_false, Bool.false_and, if_neg (by decide), Int32.add_zero]
theorem line_srt {σ : Sg} {d r : Int32} {n : Nat} (hr : r = 0 ∨ r = 1 ∨ r = 2) (hu : ∀ a, a < n → σ 16 a = 0 ∨ σ 16 a = 1) : ∀ k, k ≤ n → Srt (aheadB σ r) (lineS σ d r k)
  | 0, _ => trivial
  | k + 1, hk => by
    rw [lineS]
    have ih := line_srt (d := d) hr hu k (by omega)
    split
    · refine Srt.ins (G := fun a => a < n) (fun a b c ha hb hc h1 h2 => ?_) (fun a b ha hb hab h1 => ?_) (show k < n by omega) _ (fun x hx => ⟨by have := (lineS_lt σ d r k x hx).1; omega, by have := (lineS_lt σ d r k x hx).1; omega⟩) ih
      · rw [ah_key hr (hu _ ha) (hu _ hb)] at h1
        rw [ah_key hr (hu _ hb) (hu _ hc)] at h2
        rw [ah_key hr (hu _ ha) (hu _ hc)]
        omega
      · rw [ah_key hr (hu _ hb) (hu _ ha)]
        have h3 : ¬ aheadB σ r a b = true := by rw [h1]; decide
        rw [ah_key hr (hu _ ha) (hu _ hb)] at h3
        omega
    · exact ih
theorem line_mem {σ : Sg} {d r : Int32} {a : Nat} (h : σ 0 a = stAt d) : ∀ k, a < k → a ∈ lineS σ d r k
  | 0, q => absurd q (Nat.not_lt_zero _)
  | k + 1, q => by
    rw [lineS]
    by_cases e : a = k
    · rw [if_pos (by rw [← e]; exact h)]
      exact (insR_mem _ _ _ _).mpr (Or.inl e)
    · split
      · exact (insR_mem _ _ _ _).mpr (Or.inr (line_mem h k (by omega)))
      · exact line_mem h k (by omega)
/-- where one stands in the line -/
theorem line_at {σ : Sg} {d r : Int32} {n a : Nat} (hn : tn (σ 34 2) = n) (hr : r = 0 ∨ r = 1 ∨ r = 2) (hu : ∀ a, a < n → σ 16 a = 0 ∨ σ 16 a = 1) (ha : a < n) (h : σ 0 a = stAt d) :
    ∃ pre post, lineF σ d r = pre ++ a :: post ∧ (∀ x ∈ pre, x ≠ a) ∧ aheadN σ r a d = nI pre.length := by
  obtain ⟨S, T, e⟩ := List.append_of_mem (line_mem (σ := σ) (d := d) (r := r) h n ha)
  have hs := line_srt (σ := σ) (d := d) hr hu n (Nat.le_refl _)
  rw [e] at hs
  obtain ⟨h1, h2⟩ := hs.app
  have hlt : ∀ x, x ∈ lineS σ d r n → x < n := fun x hx => (lineS_lt σ d r n x hx).1
  have neT : ∀ x ∈ T, x ≠ a := by
    rintro x hx rfl
    have := h1 x hx
    rw [ah_key hr (hu _ ha) (hu _ ha)] at this
    omega
  refine ⟨T.reverse, S.reverse, ?_, fun x hx => neT x (List.mem_reverse.mp hx), ?_⟩
  · rw [lineF, hn, e, List.reverse_append, List.reverse_cons, List.append_assoc]
    rfl
  · rw [aheadN, hn, cnt_line, e, List.filter_append, List.length_append, List.length_reverse]
    rw [List.filter_cons_of_neg (by simp)]
    have f1 : S.filter (fun b => decide (b ≠ a) && aheadB σ r b a) = [] := by
      rw [List.filter_eq_nil_iff]
      intro s hs' q
      rw [Bool.and_eq_true] at q
      have g1 := h2 s hs'
      have g2 := q.2
      have gs : s < n := hlt s (by rw [e]; exact List.mem_append_left _ hs')
      rw [ah_key hr (hu _ ha) (hu _ gs)] at g1
      rw [ah_key hr (hu _ gs) (hu _ ha)] at g2
      omega
    have f2 : T.filter (fun b => decide (b ≠ a) && aheadB σ r b a) = T := by
      rw [List.filter_eq_self]
      intro t ht
      rw [h1 t ht, decide_eq_true (neT t ht)]
      rfl
    rw [f1, f2]
    simp
section O3
variable {μ μ' : Mem} {σ : Sg} {Λ : Lws} {Q : Res → Mem → Prop}
theorem TX.d20 (hI : TX σ Λ μ) (hD1 : Dif S20 μ μ') : TX σ Λ μ' := hI.sc (S := S20) (T := fun _ => False) ⟨fun p i k q => hD1.2 p i k q, fun p _ => ⟨hD1.C p, fun i => ⟨hD1.L p i, fun k => hD1.P p i k⟩⟩⟩ (fun p i k q => by unfold S20 at q; unfold SC; omega) (fun p q => q.elim) (fun p hp => ⟨Nat.le_of_eq (hD1.C p).symm, fun i _ => ⟨hD1.L p i, fun k => ⟨hD1.2 p i k (by unfold S20; omega), hD1.P p i k⟩⟩⟩)
theorem Fx.d20 (hD1 : Dif S20 μ μ') : Fx μ μ' := fun p i k hp => ⟨hD1.2 p i k (by unfold S20; omega), hD1.P p i k⟩
theorem deskF_in (s : Int32) : deskF s = -1 ∨ deskF s = 0 ∨ deskF s = 1 ∨ deskF s = 2 ∨ deskF s = 3 := by
  unfold deskF
  split
  · exact Or.inr (Or.inl rfl)
  · split
    · exact Or.inr (Or.inr (Or.inl rfl))
    · split
      · exact Or.inr (Or.inr (Or.inr (Or.inl rfl)))
      · split
        · exact Or.inr (Or.inr (Or.inr (Or.inr rfl)))
        · exact Or.inl rfl
theorem O_ahead {a : Int32} (hI : TX σ Λ μ) (hC : CT σ) (hP : PD σ (tn (σ 34 2)) (tn (σ 34 1)) (tn (σ 34 3))) (hr : σ 34 9 = 0 ∨ σ 34 9 = 1 ∨ σ 34 9 = 2) (h : ∀ r μ', TX (pAhead σ a).1 Λ μ' → Fx μ μ' → XR [40] (pAhead σ a).2.1 (rI (pAhead σ a).2.2) r → Q r μ') : Ct RX1 cX1_ahead (6, some .int, [], false, rmm 8 1 6) [vr 1 0, vi a] μ Q := by
  refine Ct.of (ls := [some (vr 1 0), some (vi a), none, none, none, none]) rfl fun Γ C ad => ?_
  have hX := hI.1
  have hR := hI.2.1
  have na := hC.na
  unfold pAhead at h
  by_cases h1 : isA σ a
  · rw [if_neg (nn h1)] at h
    obtain ⟨j, hj, e⟩ := hC.isA h1
    have ej : tn a = j := by rw [e, tn_nI (by omega)]
    rw [ej] at h
    refine z_aload0 dX1_ahead_0 (z_iload1 dX1_ahead_1 (z_invV1 (md_X1_askingAt _) cv_X1_283 rfl dX1_ahead_2 rfl (Nat.le_of_ble_eq_true rfl) (Rm.ofB rfl) (X_askingT hX hR h1 e hj na (z_astore2 dX1_ahead_5 (z_aload0 dX1_ahead_6 (z_getP fl_X1_42 dX1_ahead_7 rfl rfl (hX.f1 5 (by decide)) (z_getP fl_X1_232 dX1_ahead_10 rfl rfl (hX.f4 _ (by decide)) (z_iload1 dX1_ahead_13 (z_aald dX1_ahead_14 rfl (by decide) rfl ⟨e, (show j < 120 by omega), Nat.le_of_ble_eq_true rfl⟩ (hX.mo hj) (z_getIv fl_X1_236 dX1_ahead_15 rfl rfl (hR.q 0 _ (by decide)) (z_invS1 (md_X1_deskOf _) cs_X1_363 dX1_ahead_18 rfl (Nat.le_of_ble_eq_true rfl) (Rm.ofB rfl) (X_deskOf (z_istore3 dX1_ahead_21 (z_iload3 dX1_ahead_22 (z_iconst (v := (-1)) dX1_ahead_23 (by decide) (z_icmp_ne 29 dX1_ahead_24 (by decide) (fun c_24 => ?_) (fun c_24 => ?_)))))))))))))))))
    · rw [if_neg c_24] at h
      have hd4 := (deskF_in (σ 0 j)).resolve_left c_24
      obtain ⟨pre, post, e1, e2, e3⟩ := line_at (d := deskF (σ 0 j)) (a := j) rfl hr hP.2.2.2.2 hj ((desk_st hd4).mp rfl)
      rw [e3] at h
      have hlen : (lineF σ (deskF (σ 0 j)) (σ 34 9)).length ≤ tn (σ 34 2) := by rw [lineF, List.length_reverse]; exact lineS_len _ _ _ _
      have hl2 : pre.length + (post.length + 1) ≤ tn (σ 34 2) := by rw [e1, List.length_append, List.length_cons] at hlen; exact hlen
      refine z_aload0 dX1_ahead_29 (z_aload0 dX1_ahead_30 (z_getP fl_X1_42 dX1_ahead_31 rfl rfl (hX.f1 5 (by decide)) (z_iload3 dX1_ahead_34 (z_aload0 dX1_ahead_35 (z_getIv fl_X1_350 dX1_ahead_36 rfl rfl (hR.t 9 (by decide)) (z_invV3 (md_X1_line _) cv_X1_370 rfl dX1_ahead_39 rfl (Nat.le_of_ble_eq_true rfl) (Rm.ofB rfl) (X_line hX hX.mv hR (by decide) hP.1.1 hP.1.2 hd4 hr hP.2.2.2.2 (fun μ1 hD1 hr1 => ?_))))))))
      have hX1 := hX.of hD1.1
      rw [e1] at hr1
      have cell : ∀ k, k ≤ pre.length → gI μ1 20 0 k = nI ((pre ++ j :: post).getD k 0) := fun k hk => hr1 k (by rw [List.length_append, List.length_cons]; omega)
      refine z_istore4 dX1_ahead_42 (z_iconst (v := 0) dX1_ahead_44 (by decide) (z_istore5 dX1_ahead_45 ?_))
      refine loopN (P := fun k => Z RX1 cX1_ahead (6, some .int, [], false, rmm 8 1 6) (Γ, C, μ, ad, Q) (1) (6) (μ1) 47 [some (vr 1 0), some (vi a), some (vr 33 j), some (vi (deskF (σ 0 j))), some (vi (nI (lineF σ (deskF (σ 0 j)) (σ 34 9)).length)), some (vi (nI k))] []) pre.length ?_ ?_ 0 (Nat.zero_le _)
      · refine z_aload0 dX1_ahead_47 (z_getP fl_X1_65 dX1_ahead_48 rfl rfl (hX1.f1 10 (by decide)) (z_iload5 dX1_ahead_51 (z_ialdv dX1_ahead_53 rfl ⟨rfl, (show pre.length < 120 by omega), Nat.le_of_ble_eq_true rfl⟩ (cell _ (Nat.le_refl _)) (z_iload1 dX1_ahead_54 (z_icmp_eq 64 dX1_ahead_55 (by decide) (fun _ => z_iload5 dX1_ahead_64 (z_ireturn dX1_ahead_66 rfl (Nat.le_of_ble_eq_true rfl) (Nat.le_of_ble_eq_true rfl) ?_)) (fun c => absurd ((by rw [getD_appR (Nat.le_refl _), Nat.sub_self, e]; rfl)) c))))))
        exact h _ _ (hI.d20 hD1) (Fx.d20 hD1) XR.ok
      · intro k hk ih
        have hne : ¬ nI ((pre ++ j :: post).getD k 0) = a := by
          rw [getD_app hk, e]
          intro q
          have hm := getD_mem (d := 0) hk
          have hx : pre.getD k 0 < tn (σ 34 2) := by
            refine lineF_lt (σ := σ) (d := deskF (σ 0 j)) (r := σ 34 9) ?_
            rw [e1]
            exact List.mem_append_left _ hm
          exact e2 _ hm ((nI_eq (by omega) (by omega)).mp q)
        refine z_aload0 dX1_ahead_47 (z_getP fl_X1_65 dX1_ahead_48 rfl rfl (hX1.f1 10 (by decide)) (z_iload5 dX1_ahead_51 (z_ialdv dX1_ahead_53 rfl ⟨rfl, (show k < 120 by omega), Nat.le_of_ble_eq_true rfl⟩ (cell _ (Nat.le_of_lt hk)) (z_iload1 dX1_ahead_54 (z_icmp_eq 64 dX1_ahead_55 (by decide) (fun c => absurd c (hne)) (fun _ => z_iinc5 dX1_ahead_58 (inc1 k) (z_goto 47 dX1_ahead_61 (by decide) ?_)))))))
        exact ih
    · rw [if_pos c_24] at h
      refine z_iconst (v := (-1)) dX1_ahead_27 (by decide) (z_ireturn dX1_ahead_28 rfl (Nat.le_of_ble_eq_true rfl) (Nat.le_of_ble_eq_true rfl) ?_)
      exact h _ _ hI Fx.rf XR.ok
  · rw [if_pos h1] at h
    refine z_aload0 dX1_ahead_0 (z_iload1 dX1_ahead_1 (z_invV1 (md_X1_askingAt _) cv_X1_283 rfl dX1_ahead_2 rfl (Nat.le_of_ble_eq_true rfl) (Rm.ofB rfl) (X_askingF hR h1 ?_)))
    exact fun μ' i q => ⟨rfl, h _ _ (hI.exc q) (Fx.exc q) XR.e1⟩
end O3
