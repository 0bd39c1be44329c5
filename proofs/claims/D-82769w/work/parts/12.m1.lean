/-! Model: the small methods -/
def rmm (d k n : Nat) : Room := { frames := d, cells := k, slots := n, locals := 64 * d }
def bI (b : Bool) : Int32 := if b then 1 else 0
theorem bI_nar (b : Bool) : narrow .boolean (.int (bI b)) = .int (bI b) := by cases b <;> rfl
theorem bI_0 {b : Bool} : bI b = 0 ↔ b = false := by cases b <;> simp [bI]
theorem bI_n0 {b : Bool} (h : ¬ bI b = 0) : b = true := by cases b <;> simp [bI] at h ⊢
theorem bI_1 {b : Bool} : bI b = 1 ↔ b = true := by cases b <;> simp [bI]
theorem bI_ne {b c : Bool} : bI b = bI c ↔ b = c := by cases b <;> cases c <;> simp [bI]
def rmB (mm mm' : MM) (k n L : Nat) : Bool := Nat.ble (mm'.2.2.2.2.frames + 1) mm.2.2.2.2.frames && (Nat.ble (2 * L + (mm'.1 + 11) + mm'.2.2.2.2.locals) mm.2.2.2.2.locals && (Nat.ble (k + mm'.2.2.2.2.cells) mm.2.2.2.2.cells && Nat.ble (n + mm'.2.2.2.2.slots) mm.2.2.2.2.slots))
theorem Rm.ofB {mm mm' : MM} {k n L : Nat} (h : rmB mm mm' k n L = true) : Rm mm mm' k n L := by
  simp only [rmB, Bool.and_eq_true] at h
  exact ⟨Nat.le_of_ble_eq_true h.1, Nat.le_of_ble_eq_true h.2.1, Nat.le_of_ble_eq_true h.2.2.1, Nat.le_of_ble_eq_true h.2.2.2⟩
abbrev rI (x : Int32) : Res := .inl (some (vi x))
abbrev rV : Res := .inl none
theorem hbt {Q : Res → Mem → Prop} {μ : Mem} {b : Bool} (h : Q (rI (bI b)) μ) (e : b = true) : Q (rI 1) μ := by rw [e] at h; exact h
theorem hbf {Q : Res → Mem → Prop} {μ : Mem} {b : Bool} (h : Q (rI (bI b)) μ) (e : b = false) : Q (rI 0) μ := by rw [e] at h; exact h
theorem Ct.of {own : String} {cc : ByteArray} {mm : MM} {as : List AV} {μ : Mem} {Q : Res → Mem → Prop} {ls : List (Option AV)} (hl : as.map some ++ List.replicate (mm.1 - as.length) none = ls) (h : ∀ Γ C ad, Z own cc mm (Γ, C, μ, ad, Q) 0 0 μ 0 ls []) : Ct own cc mm as μ Q := fun Γ C ad => by rw [hl]; exact h Γ C ad
section ZV
variable {own : String} {cc : ByteArray} {mm : MM} {E : Ex} {k n : Nat} {μ : Mem} {pc : Nat} {ls : List (Option AV)} {st : List AV} {p i : Nat}
theorem z_getIv {idx ci k0 : Nat} {fin : Bool} {v : Int32} (hf : FL own idx ci k0 fin) (hd : decode cc pc = .ok (.getfield idx, 3)) (hp : kd p = .inl ci) (hr : (tyT ci k0).isReference = false) (hv : gI μ p i k0 = v) (kk : Z own cc mm E k n μ (pc + 3) ls (vi v :: st)) : Z own cc mm E k n μ pc ls (vr p i :: st) := by subst hv; exact z_getI hf hd hp hr kk
theorem z_ialdv {x v : Int32} {j : Nat} (hd : decode cc pc = .ok (.iaload, 1)) (hp : kd p = .inr (0, 0)) (hi : Ix x j (gL μ p i)) (hv : gI μ p i j = v) (kk : Z own cc mm E k n μ (pc + 1) ls (vi v :: st)) : Z own cc mm E k n μ pc ls (vi x :: vr p i :: st) := by subst hv; exact z_iald hd hp hi kk
theorem z_baldv {x v : Int32} {j : Nat} (hd : decode cc pc = .ok (.baload, 1)) (hp : kd p = .inr (1, 0)) (hi : Ix x j (gL μ p i)) (hv : gI μ p i j = v) (kk : Z own cc mm E k n μ (pc + 1) ls (vi v :: st)) : Z own cc mm E k n μ pc ls (vi x :: vr p i :: st) := by subst hv; exact z_bald hd hp hi kk
theorem z_zaldv {x v : Int32} {j : Nat} (hd : decode cc pc = .ok (.baload, 1)) (hp : kd p = .inr (2, 0)) (hi : Ix x j (gL μ p i)) (hv : gI μ p i j = v) (kk : Z own cc mm E k n μ (pc + 1) ls (vi v :: st)) : Z own cc mm E k n μ pc ls (vi x :: vr p i :: st) := by subst hv; exact z_zald hd hp hi kk
end ZV
/-- the Model's array fields hold their arrays -/
def mArr (k : Nat) : Bool := fl (51 + k) != 0
def MOK (μ : Mem) : Prop := ∀ k, mArr k = true → gP μ 50 0 k = some (51 + k, 0)
theorem MOK.of {μ μ' : Mem} (h : MOK μ) (e : μ'.2 = μ.2) : MOK μ' := fun k hk => by unfold gP; rw [e]; exact h k hk
theorem RepM.s7 {σ : Sg} {μ : Mem} (h : RepM σ μ) (i : Nat) (hi : i < 6) : gI μ 50 0 (tS.getD i 0) = σ 7 i := h 7 i ⟨hi, fun q => absurd q.1 (by decide)⟩
theorem RepM.s34 {σ : Sg} {μ : Mem} (h : RepM σ μ) (i : Nat) (hi : i < 18 ∧ i ≠ 10 ∧ i ≠ 11 ∧ i ≠ 13) : gI μ 50 0 (tT.getD i 0) = σ 34 i := h 34 i ⟨hi, fun q => absurd q.2 (by decide)⟩
theorem sM_col {c i : Nat} (hc : c < 40 ∧ c ≠ 7 ∧ c ≠ 34) : sM c i := by
  unfold sM
  rw [if_neg hc.2.1, if_neg hc.2.2]
  exact hc.1
theorem RepM.col {σ : Sg} {μ : Mem} (h : RepM σ μ) (c i : Nat) (hc : c < 40 ∧ c ≠ 7 ∧ c ≠ 34 ∧ ¬ (8 ≤ c ∧ c ≤ 11)) : gI μ (mp c) 0 (ms c i) = σ c i := h c i ⟨sM_col ⟨hc.1, hc.2.1, hc.2.2.1⟩, fun q => absurd q hc.2.2.2⟩
theorem RepM.bk {σ : Sg} {μ : Mem} (h : RepM σ μ) (c i : Nat) (hc : 8 ≤ c ∧ c ≤ 11) (hi : i < tn (σ 7 4)) : gI μ (mp c) 0 (ms c i) = σ c i := h c i ⟨sM_col ⟨by omega, by omega, by omega⟩, fun _ => hi⟩
section M1
variable {μ : Mem} {Q : Res → Mem → Prop} {σ : Sg}
theorem M_in {v lo hi : Int32} (h : Q (rI (bI (decide (lo ≤ v ∧ v ≤ hi)))) μ) : Ct RX5 cX5_in (3, some .boolean, [], false, rmm 1 0 0) [vi v, vi lo, vi hi] μ Q := by
  refine Ct.of (ls := [some (vi v), some (vi lo), some (vi hi)]) rfl fun Γ C ad => ?_
  refine z_iload0 dX5_in_0 (z_iload1 dX5_in_1 (z_icmp_lt 14 dX5_in_2 (by decide) (fun c_2 => ?_) (fun c_2 => ?_)))
  · refine z_iconst (v := 0) dX5_in_14 (by decide) (z_zreturn dX5_in_15 rfl rfl (by decide) (by decide) ?_)
    exact hbf h (by simp; intro q; exact absurd q (Int32.not_le.mpr c_2))
  · refine z_iload0 dX5_in_5 (z_iload2 dX5_in_6 (z_icmp_gt 14 dX5_in_7 (by decide) (fun c_7 => ?_) (fun c_7 => ?_)))
    · refine z_iconst (v := 0) dX5_in_14 (by decide) (z_zreturn dX5_in_15 rfl rfl (by decide) (by decide) ?_)
      exact hbf h (by simp; intro q; exact c_7)
    · refine z_iconst (v := 1) dX5_in_10 (by decide) (z_goto 15 dX5_in_11 (by decide) (z_zreturn dX5_in_15 rfl rfl (by decide) (by decide) ?_))
      exact hbt h (by simp; exact ⟨Int32.not_lt.mp c_2, Int32.not_lt.mp c_7⟩)
theorem M_thrown (h : Q (rI (gI μ 50 0 0)) μ) : Ct RX5 cX5_thrown (1, some .int, [], false, rmm 1 0 0) [vr 50 0] μ Q := by
  refine Ct.of (ls := [some (vr 50 0)]) rfl fun Γ C ad => ?_
  refine z_aload0 dX5_thrown_0 (z_getI fl_X5_178 dX5_thrown_1 rfl rfl (z_ireturn dX5_thrown_4 rfl (by decide) (by decide) ?_))
  exact h
theorem M_throwsIf {b : Bool} {x : Int32} (h : Q (rI (bI b)) (if b then sI μ 50 0 0 x else μ)) : Ct RX5 cX5_throwsIf (3, some .boolean, [], false, rmm 1 0 0) [vr 50 0, vi (bI b), vi x] μ Q := by
  refine Ct.of (ls := [some (vr 50 0), some (vi (bI b)), some (vi x)]) rfl fun Γ C ad => ?_
  cases b with
  | true =>
    refine z_iload1 dX5_throwsIf_0 (z_if_eq 9 dX5_throwsIf_1 (by decide) (fun c_1 => ?_) (fun c_1 => ?_))
    · exact absurd c_1 (by decide)
    · refine z_aload0 dX5_throwsIf_4 (z_iload2 dX5_throwsIf_5 (z_putI fl_X5_178 dX5_throwsIf_6 rfl rfl ⟨rfl, rfl⟩ (z_iload1 dX5_throwsIf_9 (z_zreturn dX5_throwsIf_10 rfl (bI_nar _) (by decide) (by decide) ?_))))
      exact h
  | false =>
    refine z_iload1 dX5_throwsIf_0 (z_if_eq 9 dX5_throwsIf_1 (by decide) (fun c_1 => ?_) (fun c_1 => ?_))
    · refine z_iload1 dX5_throwsIf_9 (z_zreturn dX5_throwsIf_10 rfl (bI_nar _) (by decide) (by decide) ?_)
      exact h
    · exact absurd rfl c_1
theorem M_nobody {x : Int32} (hR : RepM σ μ) (h : Q (rI (bI (!decide (0 ≤ x ∧ x ≤ σ 34 1 - 1)))) μ) : Ct RX5 cX5_nobody (2, some .boolean, [], false, rmm 2 0 0) [vr 50 0, vi x] μ Q := by
  refine Ct.of (ls := [some (vr 50 0), some (vi x)]) rfl fun Γ C ad => ?_
  refine z_iload1 dX5_nobody_0 (z_iconst (v := 0) dX5_nobody_1 (by decide) (z_aload0 dX5_nobody_2 (z_getIv fl_X5_372 dX5_nobody_3 rfl rfl (hR.s34 1 (by decide)) (z_iconst (v := 1) dX5_nobody_6 (by decide) (z_isub dX5_nobody_7 (z_invS3 (md_X5_in _) cs_X5_317 dX5_nobody_8 rfl (by decide) (Rm.ofB rfl) (M_in (z_if_ne 18 dX5_nobody_11 (by decide) (fun c_11 => ?_) (fun c_11 => ?_)))))))))
  · refine z_iconst (v := 0) dX5_nobody_18 (by decide) (z_zreturn dX5_nobody_19 rfl rfl (by decide) (by decide) ?_)
    exact hbf h (by rw [bI_n0 c_11]; rfl)
  · refine z_iconst (v := 1) dX5_nobody_14 (by decide) (z_goto 19 dX5_nobody_15 (by decide) (z_zreturn dX5_nobody_19 rfl rfl (by decide) (by decide) ?_))
    exact hbt h (by rw [bI_0.mp c_11]; rfl)
theorem M_noFace {x : Int32} (h : Q (rI (bI (!decide (0 ≤ x ∧ x ≤ 99)))) μ) : Ct RX5 cX5_noFace (1, some .boolean, [], false, rmm 2 0 0) [vi x] μ Q := by
  refine Ct.of (ls := [some (vi x)]) rfl fun Γ C ad => ?_
  refine z_iload0 dX5_noFace_0 (z_iconst (v := 0) dX5_noFace_1 (by decide) (z_bipush (v := 99) dX5_noFace_2 (by decide) (z_invS3 (md_X5_in _) cs_X5_317 dX5_noFace_4 rfl (by decide) (Rm.ofB rfl) (M_in (z_if_ne 14 dX5_noFace_7 (by decide) (fun c_7 => ?_) (fun c_7 => ?_))))))
  · refine z_iconst (v := 0) dX5_noFace_14 (by decide) (z_zreturn dX5_noFace_15 rfl rfl (by decide) (by decide) ?_)
    exact hbf h (by rw [bI_n0 c_7]; rfl)
  · refine z_iconst (v := 1) dX5_noFace_10 (by decide) (z_goto 15 dX5_noFace_11 (by decide) (z_zreturn dX5_noFace_15 rfl rfl (by decide) (by decide) ?_))
    exact hbt h (by rw [bI_0.mp c_7]; rfl)
theorem M_noDesk {x : Int32} (h : Q (rI (bI (!decide (0 ≤ x ∧ x ≤ 3)))) μ) : Ct RX5 cX5_noDesk (1, some .boolean, [], false, rmm 2 0 0) [vi x] μ Q := by
  refine Ct.of (ls := [some (vi x)]) rfl fun Γ C ad => ?_
  refine z_iload0 dX5_noDesk_0 (z_iconst (v := 0) dX5_noDesk_1 (by decide) (z_iconst (v := 3) dX5_noDesk_2 (by decide) (z_invS3 (md_X5_in _) cs_X5_317 dX5_noDesk_3 rfl (by decide) (Rm.ofB rfl) (M_in (z_if_ne 13 dX5_noDesk_6 (by decide) (fun c_6 => ?_) (fun c_6 => ?_))))))
  · refine z_iconst (v := 0) dX5_noDesk_13 (by decide) (z_zreturn dX5_noDesk_14 rfl rfl (by decide) (by decide) ?_)
    exact hbf h (by rw [bI_n0 c_6]; rfl)
  · refine z_iconst (v := 1) dX5_noDesk_9 (by decide) (z_goto 14 dX5_noDesk_10 (by decide) (z_zreturn dX5_noDesk_14 rfl rfl (by decide) (by decide) ?_))
    exact hbt h (by rw [bI_0.mp c_6]; rfl)
theorem M_noAsking {x : Int32} (hR : RepM σ μ) (h : Q (rI (bI (!decide (0 ≤ x ∧ x ≤ σ 34 2 - 1)))) μ) : Ct RX5 cX5_noAsking (2, some .boolean, [], false, rmm 2 0 0) [vr 50 0, vi x] μ Q := by
  refine Ct.of (ls := [some (vr 50 0), some (vi x)]) rfl fun Γ C ad => ?_
  refine z_iload1 dX5_noAsking_0 (z_iconst (v := 0) dX5_noAsking_1 (by decide) (z_aload0 dX5_noAsking_2 (z_getIv fl_X5_412 dX5_noAsking_3 rfl rfl (hR.s34 2 (by decide)) (z_iconst (v := 1) dX5_noAsking_6 (by decide) (z_isub dX5_noAsking_7 (z_invS3 (md_X5_in _) cs_X5_317 dX5_noAsking_8 rfl (by decide) (Rm.ofB rfl) (M_in (z_if_ne 18 dX5_noAsking_11 (by decide) (fun c_11 => ?_) (fun c_11 => ?_)))))))))
  · refine z_iconst (v := 0) dX5_noAsking_18 (by decide) (z_zreturn dX5_noAsking_19 rfl rfl (by decide) (by decide) ?_)
    exact hbf h (by rw [bI_n0 c_11]; rfl)
  · refine z_iconst (v := 1) dX5_noAsking_14 (by decide) (z_goto 19 dX5_noAsking_15 (by decide) (z_zreturn dX5_noAsking_19 rfl rfl (by decide) (by decide) ?_))
    exact hbt h (by rw [bI_0.mp c_11]; rfl)
theorem i7 (a w : Nat) : (7 : Int32) * nI a + nI w = nI (7 * a + w) := by rw [show (7 : Int32) = nI 7 from rfl, pk_mul, nI_add]
theorem M_now {a w : Nat} {x y : Int32} (hM : MOK μ) (hx : x = nI a) (hy : y = nI w) (ha : 7 * a + w < 840) (h : Q (rI (gI μ 116 0 (7 * a + w))) μ) : Ct RX5 cX5_now (3, some .int, [], false, rmm 1 0 0) [vr 50 0, vi x, vi y] μ Q := by
  refine Ct.of (ls := [some (vr 50 0), some (vi x), some (vi y)]) rfl fun Γ C ad => ?_
  refine z_aload0 dX5_now_0 (z_getP (v := some (116, 0)) fl_X5_148 dX5_now_1 rfl rfl (hM 65 rfl) (z_bipush (v := 7) dX5_now_4 (by decide) (z_iload1 dX5_now_6 (z_imul dX5_now_7 (z_iload2 dX5_now_8 (z_iadd dX5_now_9 (z_iald dX5_now_10 rfl ⟨by rw [hx, hy, i7], ha, Nat.le_of_ble_eq_true rfl⟩ (z_ireturn dX5_now_11 rfl (by decide) (by decide) ?_))))))))
  exact h
theorem M_sets {a w : Nat} {x y z : Int32} (hM : MOK μ) (hx : x = nI a) (hy : y = nI w) (ha : 7 * a + w < 840) (h : Q rV (sI μ 116 0 (7 * a + w) z)) : Ct RX5 cX5_sets (4, none, [], false, rmm 1 0 0) [vr 50 0, vi x, vi y, vi z] μ Q := by
  refine Ct.of (ls := [some (vr 50 0), some (vi x), some (vi y), some (vi z)]) rfl fun Γ C ad => ?_
  refine z_aload0 dX5_sets_0 (z_getP (v := some (116, 0)) fl_X5_148 dX5_sets_1 rfl rfl (hM 65 rfl) (z_bipush (v := 7) dX5_sets_4 (by decide) (z_iload1 dX5_sets_6 (z_imul dX5_sets_7 (z_iload2 dX5_sets_8 (z_iadd dX5_sets_9 (z_iload3 dX5_sets_10 (z_iast dX5_sets_11 rfl ⟨by rw [hx, hy, i7], ha, Nat.le_of_ble_eq_true rfl⟩ (z_return dX5_sets_12 rfl (by decide) (by decide) ?_)))))))))
  exact h
theorem M_lacksOf {a : Nat} {x : Int32} (hM : MOK μ) (hR : RepM σ μ) (hx : x = nI a) (ha : a < 120) (h : Q (rI (σ 17 a &&& (σ 23 a ^^^ (-1)))) μ) : Ct RX5 cX5_lacksOf (2, some .int, [], false, rmm 1 0 0) [vr 50 0, vi x] μ Q := by
  refine Ct.of (ls := [some (vr 50 0), some (vi x)]) rfl fun Γ C ad => ?_
  refine z_aload0 dX5_lacksOf_0 (z_getP (v := some (110, 0)) fl_X5_130 dX5_lacksOf_1 rfl rfl (hM 59 rfl) (z_iload1 dX5_lacksOf_4 (z_ialdv dX5_lacksOf_5 rfl ⟨hx, ha, Nat.le_of_ble_eq_true rfl⟩ (hR.col 17 _ (by decide)) (z_aload0 dX5_lacksOf_6 (z_getP (v := some (108, 0)) fl_X5_124 dX5_lacksOf_7 rfl rfl (hM 57 rfl) (z_iload1 dX5_lacksOf_10 (z_ialdv dX5_lacksOf_11 rfl ⟨hx, ha, Nat.le_of_ble_eq_true rfl⟩ (hR.col 23 _ (by decide)) (z_iconst (v := (-1)) dX5_lacksOf_12 (by decide) (z_ixor dX5_lacksOf_13 (z_iand dX5_lacksOf_14 (z_ireturn dX5_lacksOf_15 rfl (by decide) (by decide) ?_)))))))))))
  exact h
theorem M_noAsk {x y : Int32} (hR : RepM σ μ) (h : Q (rI (bI (!(decide (0 ≤ x ∧ x ≤ 3)) || !(decide (σ 7 0 ≤ y ∧ y ≤ 1000))))) μ) : Ct RX5 cX5_noAsk (3, some .boolean, [], false, rmm 2 0 0) [vr 50 0, vi x, vi y] μ Q := by
  refine Ct.of (ls := [some (vr 50 0), some (vi x), some (vi y)]) rfl fun Γ C ad => ?_
  refine z_iload1 dX5_noAsk_0 (z_iconst (v := 0) dX5_noAsk_1 (by decide) (z_iconst (v := 3) dX5_noAsk_2 (by decide) (z_invS3 (md_X5_in _) cs_X5_317 dX5_noAsk_3 rfl (by decide) (Rm.ofB rfl) (M_in (z_if_eq 23 dX5_noAsk_6 (by decide) (fun c_6 => ?_) (fun c_6 => ?_))))))
  · refine z_iconst (v := 1) dX5_noAsk_23 (by decide) (z_goto 28 dX5_noAsk_24 (by decide) (z_zreturn dX5_noAsk_28 rfl rfl (by decide) (by decide) ?_))
    exact hbt h (by rw [bI_0.mp c_6]; rfl)
  · refine z_iload2 dX5_noAsk_9 (z_aload0 dX5_noAsk_10 (z_getIv fl_X5_314 dX5_noAsk_11 rfl rfl (hR.s7 0 (by decide)) (z_sipush (v := 1000) dX5_noAsk_14 (by decide) (z_invS3 (md_X5_in _) cs_X5_317 dX5_noAsk_17 rfl (by decide) (Rm.ofB rfl) (M_in (z_if_ne 27 dX5_noAsk_20 (by decide) (fun c_20 => ?_) (fun c_20 => ?_)))))))
    · refine z_iconst (v := 0) dX5_noAsk_27 (by decide) (z_zreturn dX5_noAsk_28 rfl rfl (by decide) (by decide) ?_)
      exact hbf h (by rw [bI_n0 c_6, bI_n0 c_20]; rfl)
    · refine z_iconst (v := 1) dX5_noAsk_23 (by decide) (z_goto 28 dX5_noAsk_24 (by decide) (z_zreturn dX5_noAsk_28 rfl rfl (by decide) (by decide) ?_))
      exact hbt h (by rw [bI_n0 c_6, bI_0.mp c_20]; rfl)
end M1
