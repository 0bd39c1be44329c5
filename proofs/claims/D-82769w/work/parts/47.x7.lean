/-! the Office: the work of a desk -/
theorem Rm.gn {a a' D D' L k n K N K' N' : Nat} {r r' : Option FieldType} {hs hs' : List (Nat × Nat × Nat × Nat)} {i i' : Bool} (h1 : D' + 1 ≤ D) (h2 : 2 * L + a' + 11 ≤ 64) (hk : k + K' ≤ K) (hn : n + N' ≤ N) : Rm (a, r, hs, i, rmm D K N) (a', r', hs', i', rmm D' K' N') k n L := by
  refine ⟨h1, ?_, hk, hn⟩
  show 2 * L + (a' + 11) + 64 * D' ≤ 64 * D
  omega
/-- what moves with the days is in its bounds -/
def DY (σ : Sg) : Prop := TB σ ∧ 0 ≤ σ 7 1 ∧ (∀ a, σ 2 a = -1 ∨ 0 ≤ σ 2 a) ∧ (∀ a, σ 3 a = -1 ∨ 0 ≤ σ 3 a) ∧ ∃ b, σ 7 4 = nI b ∧ b ≤ 150
theorem DY.up {σ : Sg} (h : DY σ) {c i : Nat} {v : Int32} (hc : (c ≠ 7 ∨ (i ≠ 0 ∧ i ≠ 1 ∧ i ≠ 4)) ∧ (c = 2 ∨ c = 3 → v = -1 ∨ 0 ≤ v)) : DY (up2 σ c i v) := by
  obtain ⟨h1, h2, h3, h4, b, h5, h6⟩ := h
  have e : ∀ j, (j = 0 ∨ j = 1 ∨ j = 4) → up2 σ c i v 7 j = σ 7 j := fun j hj => by rw [up2_eq, if_neg (by omega)]
  refine ⟨by unfold TB; rw [e 0 (by omega)]; exact h1, by rw [e 1 (by omega)]; exact h2, fun a => ?_, fun a => ?_, b, by rw [e 4 (by omega)]; exact h5, h6⟩
  · rw [up2_eq]
    split
    · rename_i q; exact hc.2 (Or.inl q.1.symm)
    · exact h3 a
  · rw [up2_eq]
    split
    · rename_i q; exact hc.2 (Or.inr q.1.symm)
    · exact h4 a
theorem dy_gets {σ : Sg} (m : Bool) (h : DY σ) (a : Nat) : DY (getsF m σ a) := by
  have h1 : DY (up2 (up2 σ 0 a 7) 3 a (σ 7 0)) := (h.up ⟨Or.inl (by decide), by omega⟩).up ⟨Or.inl (by decide), fun _ => Or.inr h.1.1⟩
  unfold getsF
  split
  · exact h1
  · exact (h1.up ⟨Or.inl (by decide), by omega⟩).up ⟨Or.inr (by decide), by omega⟩
theorem dy_endS {σ : Sg} (h : DY σ) (a : Nat) : ∀ k, DY (endS σ a k)
  | 0 => h
  | k + 1 => by
    rw [endS]
    split
    · exact (dy_endS h a k).up ⟨Or.inl (by decide), by omega⟩
    · exact dy_endS h a k
theorem canP_bl {σ : Sg} (h : canP σ = true) : 0 < σ 7 1 ∧ σ 7 4 < 150 := by
  unfold canP at h
  simp only [Bool.and_eq_true, decide_eq_true_eq] at h
  exact ⟨h.1.1, h.2⟩
theorem pre_pos {x : Int32} (h : 0 < x) : 0 ≤ x - 1 := by
  have a1 := ti_lt.mp h
  have a2 := Int32.toInt_lt x
  have z0 : (0 : Int32).toInt = 0 := rfl
  have z1 : (1 : Int32).toInt = 1 := rfl
  rw [ti_le, ti_sub (by omega) (by omega)]
  omega
theorem dy_prin {σ : Sg} (m : Bool) (h : DY σ) (a : Nat) (hc : canP σ = true) : DY (prinF m σ a) := by
  obtain ⟨c1, c2⟩ := canP_bl hc
  have hbk : DY (bookF m σ a) := by
    unfold bookF
    split
    · have h0 : DY (if σ 13 a = 3 then σ else endS σ a (tn (σ 7 4))) := by
        split
        · exact h
        · exact dy_endS h a _
      exact (((h0.up ⟨Or.inl (by decide), by omega⟩).up ⟨Or.inl (by decide), by omega⟩).up ⟨Or.inl (by decide), by omega⟩).up ⟨Or.inl (by decide), by omega⟩
    · exact h
  have h2 : DY (up2 (up2 (up2 (bookF m σ a) 1 a (σ 7 4)) 7 4 (σ 7 4 + 1)) 7 1 (σ 7 1 - 1)) := by
    obtain ⟨g1, g2, g3, g4, b, g5, g6⟩ := (hbk.up (c := 1) (i := a) (v := σ 7 4) ⟨Or.inl (by decide), by omega⟩)
    obtain ⟨-, -, -, -, b', g7, g8⟩ := h
    have hb' : b' < 150 := by rw [g7] at c2; exact (nI_ltI (a := b') (b := 150) (by omega) (by decide)).mp c2
    exact ⟨g1, pre_pos c1, g3, g4, b' + 1, by show σ 7 4 + 1 = _; rw [g7, nI_1], by omega⟩
  have h3 := h2.up (c := 4) (i := a) (v := σ 7 0 + postF σ a) ⟨Or.inl (by decide), by omega⟩
  unfold prinF
  dsimp only
  split
  · exact dy_gets m h3 a
  · exact h3.up ⟨Or.inl (by decide), by omega⟩
theorem dy_does {σ : Sg} (m : Bool) (h : DY σ) {d : Int32} (hd : d = 0 ∨ d = 1 ∨ d = 2 ∨ d = 3) (a : Nat) (hc : d = 3 → canP σ = true) : DY (doesF m σ d a) := by
  unfold doesF
  rcases hd with rfl | rfl | rfl | rfl
  · rw [if_pos rfl]
    exact ((h.up (c := 2) (i := a) (v := σ 7 0) ⟨Or.inl (by decide), fun _ => Or.inr h.1.1⟩).up ⟨Or.inl (by decide), by omega⟩).up ⟨Or.inl (by decide), by omega⟩
  · rw [if_neg (by decide), if_pos rfl]
    exact h.up ⟨Or.inl (by decide), by omega⟩
  · rw [if_neg (by decide), if_neg (by decide), if_pos rfl]
    exact h.up ⟨Or.inl (by decide), by omega⟩
  · rw [if_neg (by decide), if_neg (by decide), if_neg (by decide)]
    exact dy_prin m h a (hc rfl)
section X7
variable {np na nl nb ng w : Nat} {μ μ' : Mem} {σ : Sg} {Q : Res → Mem → Prop} {m : Bool}
/-- the Office's pointers, with the booklets of a table -/
def WX (w np na nl nb ng : Nat) (σ : Sg) (μ : Mem) : Prop := ∃ nb', XP np na nl nb' ng μ ∧ (w = 0 → σ 7 4 = nI nb') ∧ (w ≠ 0 → nb' = nb) ∧ nb' ≤ 150
def SZ (w : Nat) : Nat → Nat → Nat → Prop := fun p i k => SY w p i k ∨ p = 20
theorem FX.z (h : FX (SY w) (TY w) μ μ') : FX (SZ w) (TY w) μ μ' := h.mono (fun _ _ _ q => Or.inl q) fun _ q => q
theorem FX.z20 (h : Dif S20 μ μ') : FX (SZ w) (TY w) μ μ' := ⟨fun p i k q => h.2 p i k fun z => q (Or.inr z), fun p _ => ⟨h.C p, fun i => ⟨h.L p i, fun k => h.P p i k⟩⟩⟩
theorem row20 {l : List Nat} (hw : w < 2) (h : rowIs (gI μ 20 0) l) (hF : FX (SY w) (TY w) μ μ') : rowIs (gI μ' 20 0) l := fun j hj => by
  rw [hF.I (by unfold SY; omega)]
  exact h j hj
theorem X_work012 {r u : Int32} (hX : XP np na nl nb ng μ) (hv : XMv w na μ) (hR : RepX w σ μ) (hw : w < 2) (hP : PD σ na np nl) (hD : DY σ) (hr : r = 0 ∨ r = 1 ∨ r = 2) {d : Int32} (hd : d = 0 ∨ d = 1 ∨ d = 2) (h : ∀ μ', RepX w (wkS m d σ u (lineF σ d r)).1 μ' → μ'.2 = μ.2 → FX (SZ w) (TY w) μ μ' → Q (rI (wkS m d σ u (lineF σ d r)).2) μ') : Ct RX1 cX1_work (11, some .int, [], false, rmm 5 0 0) [vr 1 0, vr 4 w, vi d, vi r, vi u] μ Q := by
  refine Ct.of (ls := [some (vr 1 0), some (vr 4 w), some (vi d), some (vi r), some (vi u), none, none, none, none, none, none]) rfl fun Γ C ad => ?_
  have n120 := hP.1.2
  have en : tn (σ 34 2) = na := by rw [hP.1.1, tn_nI (by omega)]
  have hd4 : d = 0 ∨ d = 1 ∨ d = 2 ∨ d = 3 := by rcases hd with q | q | q <;> simp [q]
  have hd3 : ¬ d = 3 := by rcases hd with q | q | q <;> rw [q] <;> decide
  have hll : (lineF σ d r).length ≤ na := by rw [lineF, List.length_reverse, en]; exact lineS_len _ _ _ _
  have loop : ∀ (t pre : List Nat) (σ' : Sg) (u' : Int32) (μ' : Mem) (b o1 o2 : Option AV), lineF σ d r = pre ++ t → RepX w σ' μ' → SameTh σ σ' → DY σ' → μ'.2 = μ.2 → FX (SZ w) (TY w) μ μ' → rowIs (gI μ' 20 0) (lineF σ d r) →
      (∀ μ2, RepX w (wkS m d σ' u' t).1 μ2 → μ2.2 = μ.2 → FX (SZ w) (TY w) μ μ2 → Q (rI (wkS m d σ' u' t).2) μ2) →
      Z RX1 cX1_work (11, some .int, [], false, rmm 5 0 0) (Γ, C, μ, ad, Q) 0 0 μ' 41 [some (vr 1 0), some (vr 4 w), some (vi d), some (vi r), some (vi u), some (vi u'), some (vi (nI (lineF σ d r).length)), b, some (vi (nI pre.length)), o1, o2] [] := by
    intro t
    induction t with
    | nil =>
      intro pre σ' u' μ' b o1 o2 e hR' hT hD' em hF hrow hq
      rw [List.append_nil] at e
      refine z_iload8 dX1_work_41 (z_iload6 dX1_work_43 (z_icmp_ge 125 dX1_work_45 (by decide) (fun _ => z_iload5 dX1_work_125 (z_ireturn dX1_work_127 rfl (Nat.le_of_ble_eq_true rfl) (Nat.le_of_ble_eq_true rfl) ?_)) (fun c => absurd ((by rw [e]; exact Int32.le_refl _)) c)))
      exact hq μ' hR' em hF
    | cons a t iht =>
      intro pre σ' u' μ' b o1 o2 e hR' hT hD' em hF hrow hq
      have hX' := hX.of em
      have hv' := hv.of em
      have hP' := hP.th hT
      have ham : a ∈ lineF σ d r := by rw [e]; exact List.mem_append_right _ List.mem_cons_self
      have han : a < na := by rw [← en]; exact lineF_lt ham
      have hlen : (lineF σ d r).length = pre.length + (t.length + 1) := by rw [e, List.length_append, List.length_cons]
      have erow : gI μ' 20 0 pre.length = nI a := by
        rw [hrow pre.length (by omega), e, getD_appR (Nat.le_refl _), Nat.sub_self]
        rfl
      have hlt : ¬ nI (lineF σ d r).length ≤ nI pre.length := nI_ge (by omega) (by omega)
      have e1 : wkS m d σ' u' (a :: t) = if u' < costF σ' d a ∨ (d = 3 ∧ canP σ' = false) then (σ', u') else wkS m d (doesF m σ' d a) (u' - costF σ' d a) t := rfl
      have ix : Ix (nI pre.length) pre.length 120 := ⟨rfl, by omega, by decide⟩
      obtain ⟨p, hp1, hp2⟩ := hP'.2.2.2.1 a han
      refine z_iload8 dX1_work_41 (z_iload6 dX1_work_43 (z_icmp_ge 125 dX1_work_45 (by decide) (fun c => absurd c (hlt)) (fun _ => z_aload0 dX1_work_48 (z_getP fl_X1_65 dX1_work_49 rfl rfl (hX'.f1 10 (by decide)) (z_iload8 dX1_work_52 (z_ialdv dX1_work_54 rfl ix (erow) (z_istore9 dX1_work_55 (z_aload0 dX1_work_57 (z_aload1 dX1_work_58 (z_iload2 dX1_work_59 (z_iload9 dX1_work_60 (z_invV3 (md_X1_costs _) cv_X1_394 rfl dX1_work_62 rfl (Nat.le_of_ble_eq_true rfl) (Rm.ofB rfl) (X_costs hX' hv' hR' hw rfl han n120 (hD'.2.2.1 a) hd4 (z_istore10 dX1_work_65 (z_iload10 dX1_work_67 (z_iload5 dX1_work_69 (z_icmp_gt 125 dX1_work_71 (by decide) (fun c_71 => ?_) (fun c_71 => ?_))))))))))))))))))
      · rw [e1, if_pos (Or.inl c_71)] at hq
        refine z_iload5 dX1_work_125 (z_ireturn dX1_work_127 rfl (Nat.le_of_ble_eq_true rfl) (Nat.le_of_ble_eq_true rfl) ?_)
        exact hq μ' hR' em hF
      · rw [e1, if_neg (fun q => q.elim c_71 (fun q => hd3 q.1))] at hq
        refine z_iload2 dX1_work_74 (z_iconst (v := 3) dX1_work_75 (by decide) (z_icmp_ne 104 dX1_work_76 (by decide) (fun _ => z_iload5 dX1_work_104 (z_iload10 dX1_work_106 (z_isub dX1_work_108 (z_istore5 dX1_work_109 (z_aload0 dX1_work_111 (z_aload1 dX1_work_112 (z_iload2 dX1_work_113 (z_iload9 dX1_work_114 (z_invV3 (md_X1_does _) cv_X1_397 rfl dX1_work_116 rfl (Nat.le_of_ble_eq_true rfl) (Rm.ofB rfl) (X_does012 (m := m) hX' hv' hR' hw rfl han n120 hp2 hp1 hP'.2.1.1 hP'.2.1.2 hd (fun μ2 hR2 em2 hF2 => ?_))))))))))) (fun c => absurd c (hd3))))
        refine z_iinc8 dX1_work_119 (inc1 pre.length) (z_goto 41 dX1_work_122 (by decide) ?_)
        have := iht (pre ++ [a]) _ _ μ2 b (some (vi (nI a))) (some (vi (costF σ' d a))) (by rw [e, List.append_assoc]; rfl) hR2 (hT.tr (th_does m σ' d a)) (dy_does m hD' hd4 a (fun q => absurd q hd3)) (em2.trans em) (hF.tr hF2.z) (row20 hw hrow hF2) hq
        rw [List.length_append, List.length_singleton] at this
        exact this
  have begin_ : ∀ (b : Int32) (μ1 : Mem), Dif S20 μ μ1 → rowIs (gI μ1 20 0) (lineF σ d r) → Z RX1 cX1_work (11, some .int, [], false, rmm 5 0 0) (Γ, C, μ, ad, Q) (0) (0) (μ1) 36 [some (vr 1 0), some (vr 4 w), some (vi d), some (vi r), some (vi u), some (vi u), some (vi (nI (lineF σ d r).length)), none, none, none, none] [vi b] := by
    intro b μ1 hD1 hr1
    refine z_istore7 dX1_work_36 (z_iconst (v := 0) dX1_work_38 (by decide) (z_istore8 dX1_work_39 ?_))
    exact loop _ [] σ u μ1 _ _ _ rfl (hR.d20 hw hD1) SameTh.rf hD hD1.1 (FX.z20 hD1) hr1 h
  refine z_iload4 dX1_work_0 (z_istore5 dX1_work_2 (z_aload0 dX1_work_4 (z_aload1 dX1_work_5 (z_iload2 dX1_work_6 (z_iload3 dX1_work_7 (z_invV3 (md_X1_line _) cv_X1_370 rfl dX1_work_8 rfl (Nat.le_of_ble_eq_true rfl) (Rm.ofB rfl) (X_line hX hv hR hw hP.1.1 n120 hd4 hr hP.2.2.2.2 (fun μ1 hD1 hr1 => ?_))))))))
  have hR1 := hR.d20 hw hD1
  refine z_istore6 dX1_work_11 (z_aload1 dX1_work_13 (z_getIv fl_X1_140 dX1_work_14 rfl rfl (hR1.wd 0 (by decide)) (z_aload0 dX1_work_17 (z_getIv fl_X1_90 dX1_work_18 rfl rfl (hR1.t 10 (by decide)) (z_aload0 dX1_work_21 (z_getIv fl_X1_93 dX1_work_22 rfl rfl (hR1.t 11 (by decide)) (z_invS3 (md_X1_isIn _) cs_X1_114 dX1_work_25 rfl (Nat.le_of_ble_eq_true rfl) (Rm.ofB rfl) (X_isIn (z_if_ne 35 dX1_work_28 (by decide) (fun c_28 => ?_) (fun c_28 => ?_))))))))))
  · refine z_iconst (v := 0) dX1_work_35 (by decide) ?_
    exact begin_ _ μ1 hD1 hr1
  · refine z_iconst (v := 1) dX1_work_31 (by decide) (z_goto 36 dX1_work_32 (by decide) ?_)
    exact begin_ _ μ1 hD1 hr1
end X7
