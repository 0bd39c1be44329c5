/-! Model: names -/
def turnF (c : Int32) : Int32 :=
  if 65 ≤ c ∧ c ≤ 90 then c else if 97 ≤ c ∧ c ≤ 122 then c - 32 else if c = 32 ∨ c = 45 then 60 else if c = 196 ∨ c = 228 ∨ c = 198 ∨ c = 230 then 17729 else if c = 214 ∨ c = 246 ∨ c = 216 ∨ c = 248 then 17743 else
  if c = 220 ∨ c = 252 then 17749 else if c = 223 then 21331 else if c = 197 ∨ c = 229 then 16705 else if c = 209 ∨ c = 241 then 78 else if c = 201 ∨ c = 233 ∨ c = 200 ∨ c = 232 then 69 else if c = 199 ∨ c = 231 then 67 else 0
def pcsF (t : Int32) : List Int32 := if t < 256 then [t - t / 256 * 256] else [t - t / 256 * 256, t / 256]
/-- the signs of a name, and whether a gap was last; or where it is wrong -/
def nmL (T : Nat → Int32) : Nat → Nat ⊕ (List Int32 × Bool)
  | 0 => .inr ([], true)
  | k + 1 => match nmL T k with
    | .inl x => .inl x
    | .inr q => if turnF (T k &&& 255) = 0 ∨ k = 24 ∨ (turnF (T k &&& 255) = 60 ∧ q.2 = true) then .inl k else .inr (q.1 ++ pcsF (turnF (T k &&& 255)), decide (turnF (T k &&& 255) = 60))
def nmF (T : Nat → Int32) (e : Nat) : Nat ⊕ List Int32 := match nmL T e with
  | .inl x => .inl x
  | .inr q => if q.2 = true then .inl e else .inr q.1
def nameW (σ : Sg) (p : Nat) (l : List Int32) : Nat → Sg
  | 0 => σ
  | k + 1 => up2 (nameW σ p l k) 37 (24 * p + k) (if k < l.length then l.getD k 0 else 60)
def pName (σ : Sg) (p : Int32) : Op1 :=
  if ¬ isP σ p then (up2 σ 34 15 0, 1, 0)
  else match nmF (σ 35) (tn (σ 34 15)) with
    | .inl x => (up2 (up2 σ 34 15 0) 34 14 (nI x), 2, 0)
    | .inr l => (nameW (up2 (up2 (up2 σ 34 15 0) 34 14 (-1)) 36 (tn p) 1) (tn p) l 24, 0, nI l.length)
def lkM : List (Int × Int) := [(32, 194), (45, 194), (196, 197), (197, 213), (198, 197), (199, 223), (200, 220), (201, 220), (209, 217), (214, 201), (216, 201), (220, 205), (223, 209), (228, 197), (229, 213), (230, 197), (231, 223), (232, 220), (233, 220), (241, 217), (246, 201), (248, 201), (252, 205)]
def lkV : List (Int × Int32) := [(194, 60), (197, 17729), (201, 17743), (205, 17749), (209, 21331), (213, 16705), (217, 78), (220, 69), (223, 67), (226, 0)]
def lkB (k : Nat) : Bool := decide (65 ≤ k ∧ k ≤ 90) || decide (97 ≤ k ∧ k ≤ 122) || decide ((Op.lookupswitch.offset lkM 226 (k : Nat), turnF (nI k)) ∈ lkV)
theorem lkM_all : (List.range 256).all lkB = true := by decide +kernel
theorem lkM_ok {k : Nat} (hk : k < 256) (h1 : ¬ (65 ≤ k ∧ k ≤ 90)) (h2 : ¬ (97 ≤ k ∧ k ≤ 122)) : (Op.lookupswitch.offset lkM 226 (k : Nat), turnF (nI k)) ∈ lkV := by
  have := List.all_eq_true.mp lkM_all k (List.mem_range.mpr hk)
  unfold lkB at this
  rw [decide_eq_false h1, decide_eq_false h2] at this
  exact of_decide_eq_true this
def isGp (c : Int32) : Bool := decide (c = 32 ∨ c = 45)
theorem turn_ok : ∀ k, k < 256 → (turnF (nI k) = 60 ↔ isGp (nI k) = true) ∧ 0 ≤ turnF (nI k) ∧ (turnF (nI k) < 256 ∨ 256 ≤ turnF (nI k)) := by decide +kernel
section M20
variable {μ μ' : Mem} {Q : Res → Mem → Prop} {T : Nat → Int32} {e a : Nat} {σ : Sg} {Λ : Lws}
theorem M_isGap {c : Int32} (h : Q (rI (bI (isGp c))) μ) : Ct RX5 cX5_isGap (1, some .boolean, [], false, rmm 1 0 0) [vi c] μ Q := by
  refine Ct.of (ls := [some (vi c)]) rfl fun Γ C ad => ?_
  refine z_iload0 dX5_isGap_0 (z_bipush (v := 32) dX5_isGap_1 (by decide) (z_icmp_eq 12 dX5_isGap_3 (by decide) (fun c_3 => ?_) (fun c_3 => ?_)))
  · refine z_iconst (v := 1) dX5_isGap_12 (by decide) (z_goto 17 dX5_isGap_13 (by decide) (z_zreturn dX5_isGap_17 rfl rfl (Nat.le_of_ble_eq_true rfl) (Nat.le_of_ble_eq_true rfl) ?_))
    exact hbt h (by simp [isGp, c_3])
  · refine z_iload0 dX5_isGap_6 (z_bipush (v := 45) dX5_isGap_7 (by decide) (z_icmp_ne 16 dX5_isGap_9 (by decide) (fun c_9 => ?_) (fun c_9 => ?_)))
    · refine z_iconst (v := 0) dX5_isGap_16 (by decide) (z_zreturn dX5_isGap_17 rfl rfl (Nat.le_of_ble_eq_true rfl) (Nat.le_of_ble_eq_true rfl) ?_)
      exact hbf h (by simp [isGp, c_3, c_9])
    · refine z_iconst (v := 1) dX5_isGap_12 (by decide) (z_goto 17 dX5_isGap_13 (by decide) (z_zreturn dX5_isGap_17 rfl rfl (Nat.le_of_ble_eq_true rfl) (Nat.le_of_ble_eq_true rfl) ?_))
      exact hbt h (by simp [isGp, c_9])
theorem M_turnOf {k : Nat} (hk : k < 256) (h : Q (rI (turnF (nI k))) μ) : Ct RX5 cX5_turnOf (1, some .int, [], false, rmm 2 0 0) [vi (nI k)] μ Q := by
  refine Ct.of (ls := [some (vi (nI k))]) rfl fun Γ C ad => ?_
  have ci : ∀ a b : Nat, a < 256 → b < 256 → ((nI a ≤ nI k ∧ nI k ≤ nI b) ↔ (a ≤ k ∧ k ≤ b)) := fun a b ha hb => by
    rw [nI_leI (by omega) (by omega), nI_leI (by omega) (by omega)]
  by_cases h1 : (65 : Int32) ≤ nI k ∧ nI k ≤ 90
  · rw [turnF, if_pos h1] at h
    refine z_iload0 dX5_turnOf_0 (z_bipush (v := 65) dX5_turnOf_1 (by decide) (z_bipush (v := 90) dX5_turnOf_3 (by decide) (z_invS3 (md_X5_in _) cs_X5_317 dX5_turnOf_5 rfl (Nat.le_of_ble_eq_true rfl) (Rm.ofB rfl) (M_inT h1 (z_if_eq 13 dX5_turnOf_8 (by decide) (fun c => absurd c (n10)) (fun _ => z_iload0 dX5_turnOf_11 (z_ireturn dX5_turnOf_12 rfl (Nat.le_of_ble_eq_true rfl) (Nat.le_of_ble_eq_true rfl) ?_)))))))
    exact h
  · by_cases h2 : (97 : Int32) ≤ nI k ∧ nI k ≤ 122
    · rw [turnF, if_neg h1, if_pos h2] at h
      refine z_iload0 dX5_turnOf_0 (z_bipush (v := 65) dX5_turnOf_1 (by decide) (z_bipush (v := 90) dX5_turnOf_3 (by decide) (z_invS3 (md_X5_in _) cs_X5_317 dX5_turnOf_5 rfl (Nat.le_of_ble_eq_true rfl) (Rm.ofB rfl) (M_inF h1 (z_if_eq 13 dX5_turnOf_8 (by decide) (fun _ => z_iload0 dX5_turnOf_13 (z_bipush (v := 97) dX5_turnOf_14 (by decide) (z_bipush (v := 122) dX5_turnOf_16 (by decide) (z_invS3 (md_X5_in _) cs_X5_317 dX5_turnOf_18 rfl (Nat.le_of_ble_eq_true rfl) (Rm.ofB rfl) (M_inT h2 (z_if_eq 29 dX5_turnOf_21 (by decide) (fun c => absurd c (n10)) (fun _ => z_iload0 dX5_turnOf_24 (z_bipush (v := 32) dX5_turnOf_25 (by decide) (z_isub dX5_turnOf_27 (z_ireturn dX5_turnOf_28 rfl (Nat.le_of_ble_eq_true rfl) (Nat.le_of_ble_eq_true rfl) ?_)))))))))) (fun c => absurd (rfl) c))))))
      exact h
    · have et : (nI k).toInt = ((k : Nat) : Int) := nI_toInt (by omega)
      have hm := lkM_ok hk (fun q => h1 ((ci 65 90 (by decide) (by decide)).mpr q)) (fun q => h2 ((ci 97 122 (by decide) (by decide)).mpr q))
      simp only [lkV, List.mem_cons, Prod.mk.injEq, List.not_mem_nil, or_false] at hm
      rcases hm with ⟨q1, q2⟩ | ⟨q1, q2⟩ | ⟨q1, q2⟩ | ⟨q1, q2⟩ | ⟨q1, q2⟩ | ⟨q1, q2⟩ | ⟨q1, q2⟩ | ⟨q1, q2⟩ | ⟨q1, q2⟩ | ⟨q1, q2⟩
      · rw [q2] at h
        refine z_iload0 dX5_turnOf_0 (z_bipush (v := 65) dX5_turnOf_1 (by decide) (z_bipush (v := 90) dX5_turnOf_3 (by decide) (z_invS3 (md_X5_in _) cs_X5_317 dX5_turnOf_5 rfl (Nat.le_of_ble_eq_true rfl) (Rm.ofB rfl) (M_inF h1 (z_if_eq 13 dX5_turnOf_8 (by decide) (fun _ => z_iload0 dX5_turnOf_13 (z_bipush (v := 97) dX5_turnOf_14 (by decide) (z_bipush (v := 122) dX5_turnOf_16 (by decide) (z_invS3 (md_X5_in _) cs_X5_317 dX5_turnOf_18 rfl (Nat.le_of_ble_eq_true rfl) (Rm.ofB rfl) (M_inF h2 (z_if_eq 29 dX5_turnOf_21 (by decide) (fun _ => z_iload0 dX5_turnOf_29 (z_look (off := 194) 224 dX5_turnOf_30 (by decide) (by rw [et]; exact q1) (by decide) (z_bipush (v := 60) dX5_turnOf_224 (by decide) (z_ireturn dX5_turnOf_226 rfl (Nat.le_of_ble_eq_true rfl) (Nat.le_of_ble_eq_true rfl) ?_)))) (fun c => absurd (rfl) c))))))) (fun c => absurd (rfl) c))))))
        exact h
      · rw [q2] at h
        refine z_iload0 dX5_turnOf_0 (z_bipush (v := 65) dX5_turnOf_1 (by decide) (z_bipush (v := 90) dX5_turnOf_3 (by decide) (z_invS3 (md_X5_in _) cs_X5_317 dX5_turnOf_5 rfl (Nat.le_of_ble_eq_true rfl) (Rm.ofB rfl) (M_inF h1 (z_if_eq 13 dX5_turnOf_8 (by decide) (fun _ => z_iload0 dX5_turnOf_13 (z_bipush (v := 97) dX5_turnOf_14 (by decide) (z_bipush (v := 122) dX5_turnOf_16 (by decide) (z_invS3 (md_X5_in _) cs_X5_317 dX5_turnOf_18 rfl (Nat.le_of_ble_eq_true rfl) (Rm.ofB rfl) (M_inF h2 (z_if_eq 29 dX5_turnOf_21 (by decide) (fun _ => z_iload0 dX5_turnOf_29 (z_look (off := 197) 227 dX5_turnOf_30 (by decide) (by rw [et]; exact q1) (by decide) (z_sipush (v := 17729) dX5_turnOf_227 (by decide) (z_ireturn dX5_turnOf_230 rfl (Nat.le_of_ble_eq_true rfl) (Nat.le_of_ble_eq_true rfl) ?_)))) (fun c => absurd (rfl) c))))))) (fun c => absurd (rfl) c))))))
        exact h
      · rw [q2] at h
        refine z_iload0 dX5_turnOf_0 (z_bipush (v := 65) dX5_turnOf_1 (by decide) (z_bipush (v := 90) dX5_turnOf_3 (by decide) (z_invS3 (md_X5_in _) cs_X5_317 dX5_turnOf_5 rfl (Nat.le_of_ble_eq_true rfl) (Rm.ofB rfl) (M_inF h1 (z_if_eq 13 dX5_turnOf_8 (by decide) (fun _ => z_iload0 dX5_turnOf_13 (z_bipush (v := 97) dX5_turnOf_14 (by decide) (z_bipush (v := 122) dX5_turnOf_16 (by decide) (z_invS3 (md_X5_in _) cs_X5_317 dX5_turnOf_18 rfl (Nat.le_of_ble_eq_true rfl) (Rm.ofB rfl) (M_inF h2 (z_if_eq 29 dX5_turnOf_21 (by decide) (fun _ => z_iload0 dX5_turnOf_29 (z_look (off := 201) 231 dX5_turnOf_30 (by decide) (by rw [et]; exact q1) (by decide) (z_sipush (v := 17743) dX5_turnOf_231 (by decide) (z_ireturn dX5_turnOf_234 rfl (Nat.le_of_ble_eq_true rfl) (Nat.le_of_ble_eq_true rfl) ?_)))) (fun c => absurd (rfl) c))))))) (fun c => absurd (rfl) c))))))
        exact h
      · rw [q2] at h
        refine z_iload0 dX5_turnOf_0 (z_bipush (v := 65) dX5_turnOf_1 (by decide) (z_bipush (v := 90) dX5_turnOf_3 (by decide) (z_invS3 (md_X5_in _) cs_X5_317 dX5_turnOf_5 rfl (Nat.le_of_ble_eq_true rfl) (Rm.ofB rfl) (M_inF h1 (z_if_eq 13 dX5_turnOf_8 (by decide) (fun _ => z_iload0 dX5_turnOf_13 (z_bipush (v := 97) dX5_turnOf_14 (by decide) (z_bipush (v := 122) dX5_turnOf_16 (by decide) (z_invS3 (md_X5_in _) cs_X5_317 dX5_turnOf_18 rfl (Nat.le_of_ble_eq_true rfl) (Rm.ofB rfl) (M_inF h2 (z_if_eq 29 dX5_turnOf_21 (by decide) (fun _ => z_iload0 dX5_turnOf_29 (z_look (off := 205) 235 dX5_turnOf_30 (by decide) (by rw [et]; exact q1) (by decide) (z_sipush (v := 17749) dX5_turnOf_235 (by decide) (z_ireturn dX5_turnOf_238 rfl (Nat.le_of_ble_eq_true rfl) (Nat.le_of_ble_eq_true rfl) ?_)))) (fun c => absurd (rfl) c))))))) (fun c => absurd (rfl) c))))))
        exact h
      · rw [q2] at h
        refine z_iload0 dX5_turnOf_0 (z_bipush (v := 65) dX5_turnOf_1 (by decide) (z_bipush (v := 90) dX5_turnOf_3 (by decide) (z_invS3 (md_X5_in _) cs_X5_317 dX5_turnOf_5 rfl (Nat.le_of_ble_eq_true rfl) (Rm.ofB rfl) (M_inF h1 (z_if_eq 13 dX5_turnOf_8 (by decide) (fun _ => z_iload0 dX5_turnOf_13 (z_bipush (v := 97) dX5_turnOf_14 (by decide) (z_bipush (v := 122) dX5_turnOf_16 (by decide) (z_invS3 (md_X5_in _) cs_X5_317 dX5_turnOf_18 rfl (Nat.le_of_ble_eq_true rfl) (Rm.ofB rfl) (M_inF h2 (z_if_eq 29 dX5_turnOf_21 (by decide) (fun _ => z_iload0 dX5_turnOf_29 (z_look (off := 209) 239 dX5_turnOf_30 (by decide) (by rw [et]; exact q1) (by decide) (z_sipush (v := 21331) dX5_turnOf_239 (by decide) (z_ireturn dX5_turnOf_242 rfl (Nat.le_of_ble_eq_true rfl) (Nat.le_of_ble_eq_true rfl) ?_)))) (fun c => absurd (rfl) c))))))) (fun c => absurd (rfl) c))))))
        exact h
      · rw [q2] at h
        refine z_iload0 dX5_turnOf_0 (z_bipush (v := 65) dX5_turnOf_1 (by decide) (z_bipush (v := 90) dX5_turnOf_3 (by decide) (z_invS3 (md_X5_in _) cs_X5_317 dX5_turnOf_5 rfl (Nat.le_of_ble_eq_true rfl) (Rm.ofB rfl) (M_inF h1 (z_if_eq 13 dX5_turnOf_8 (by decide) (fun _ => z_iload0 dX5_turnOf_13 (z_bipush (v := 97) dX5_turnOf_14 (by decide) (z_bipush (v := 122) dX5_turnOf_16 (by decide) (z_invS3 (md_X5_in _) cs_X5_317 dX5_turnOf_18 rfl (Nat.le_of_ble_eq_true rfl) (Rm.ofB rfl) (M_inF h2 (z_if_eq 29 dX5_turnOf_21 (by decide) (fun _ => z_iload0 dX5_turnOf_29 (z_look (off := 213) 243 dX5_turnOf_30 (by decide) (by rw [et]; exact q1) (by decide) (z_sipush (v := 16705) dX5_turnOf_243 (by decide) (z_ireturn dX5_turnOf_246 rfl (Nat.le_of_ble_eq_true rfl) (Nat.le_of_ble_eq_true rfl) ?_)))) (fun c => absurd (rfl) c))))))) (fun c => absurd (rfl) c))))))
        exact h
      · rw [q2] at h
        refine z_iload0 dX5_turnOf_0 (z_bipush (v := 65) dX5_turnOf_1 (by decide) (z_bipush (v := 90) dX5_turnOf_3 (by decide) (z_invS3 (md_X5_in _) cs_X5_317 dX5_turnOf_5 rfl (Nat.le_of_ble_eq_true rfl) (Rm.ofB rfl) (M_inF h1 (z_if_eq 13 dX5_turnOf_8 (by decide) (fun _ => z_iload0 dX5_turnOf_13 (z_bipush (v := 97) dX5_turnOf_14 (by decide) (z_bipush (v := 122) dX5_turnOf_16 (by decide) (z_invS3 (md_X5_in _) cs_X5_317 dX5_turnOf_18 rfl (Nat.le_of_ble_eq_true rfl) (Rm.ofB rfl) (M_inF h2 (z_if_eq 29 dX5_turnOf_21 (by decide) (fun _ => z_iload0 dX5_turnOf_29 (z_look (off := 217) 247 dX5_turnOf_30 (by decide) (by rw [et]; exact q1) (by decide) (z_bipush (v := 78) dX5_turnOf_247 (by decide) (z_ireturn dX5_turnOf_249 rfl (Nat.le_of_ble_eq_true rfl) (Nat.le_of_ble_eq_true rfl) ?_)))) (fun c => absurd (rfl) c))))))) (fun c => absurd (rfl) c))))))
        exact h
      · rw [q2] at h
        refine z_iload0 dX5_turnOf_0 (z_bipush (v := 65) dX5_turnOf_1 (by decide) (z_bipush (v := 90) dX5_turnOf_3 (by decide) (z_invS3 (md_X5_in _) cs_X5_317 dX5_turnOf_5 rfl (Nat.le_of_ble_eq_true rfl) (Rm.ofB rfl) (M_inF h1 (z_if_eq 13 dX5_turnOf_8 (by decide) (fun _ => z_iload0 dX5_turnOf_13 (z_bipush (v := 97) dX5_turnOf_14 (by decide) (z_bipush (v := 122) dX5_turnOf_16 (by decide) (z_invS3 (md_X5_in _) cs_X5_317 dX5_turnOf_18 rfl (Nat.le_of_ble_eq_true rfl) (Rm.ofB rfl) (M_inF h2 (z_if_eq 29 dX5_turnOf_21 (by decide) (fun _ => z_iload0 dX5_turnOf_29 (z_look (off := 220) 250 dX5_turnOf_30 (by decide) (by rw [et]; exact q1) (by decide) (z_bipush (v := 69) dX5_turnOf_250 (by decide) (z_ireturn dX5_turnOf_252 rfl (Nat.le_of_ble_eq_true rfl) (Nat.le_of_ble_eq_true rfl) ?_)))) (fun c => absurd (rfl) c))))))) (fun c => absurd (rfl) c))))))
        exact h
      · rw [q2] at h
        refine z_iload0 dX5_turnOf_0 (z_bipush (v := 65) dX5_turnOf_1 (by decide) (z_bipush (v := 90) dX5_turnOf_3 (by decide) (z_invS3 (md_X5_in _) cs_X5_317 dX5_turnOf_5 rfl (Nat.le_of_ble_eq_true rfl) (Rm.ofB rfl) (M_inF h1 (z_if_eq 13 dX5_turnOf_8 (by decide) (fun _ => z_iload0 dX5_turnOf_13 (z_bipush (v := 97) dX5_turnOf_14 (by decide) (z_bipush (v := 122) dX5_turnOf_16 (by decide) (z_invS3 (md_X5_in _) cs_X5_317 dX5_turnOf_18 rfl (Nat.le_of_ble_eq_true rfl) (Rm.ofB rfl) (M_inF h2 (z_if_eq 29 dX5_turnOf_21 (by decide) (fun _ => z_iload0 dX5_turnOf_29 (z_look (off := 223) 253 dX5_turnOf_30 (by decide) (by rw [et]; exact q1) (by decide) (z_bipush (v := 67) dX5_turnOf_253 (by decide) (z_ireturn dX5_turnOf_255 rfl (Nat.le_of_ble_eq_true rfl) (Nat.le_of_ble_eq_true rfl) ?_)))) (fun c => absurd (rfl) c))))))) (fun c => absurd (rfl) c))))))
        exact h
      · rw [q2] at h
        refine z_iload0 dX5_turnOf_0 (z_bipush (v := 65) dX5_turnOf_1 (by decide) (z_bipush (v := 90) dX5_turnOf_3 (by decide) (z_invS3 (md_X5_in _) cs_X5_317 dX5_turnOf_5 rfl (Nat.le_of_ble_eq_true rfl) (Rm.ofB rfl) (M_inF h1 (z_if_eq 13 dX5_turnOf_8 (by decide) (fun _ => z_iload0 dX5_turnOf_13 (z_bipush (v := 97) dX5_turnOf_14 (by decide) (z_bipush (v := 122) dX5_turnOf_16 (by decide) (z_invS3 (md_X5_in _) cs_X5_317 dX5_turnOf_18 rfl (Nat.le_of_ble_eq_true rfl) (Rm.ofB rfl) (M_inF h2 (z_if_eq 29 dX5_turnOf_21 (by decide) (fun _ => z_iload0 dX5_turnOf_29 (z_look (off := 226) 256 dX5_turnOf_30 (by decide) (by rw [et]; exact q1) (by decide) (z_iconst (v := 0) dX5_turnOf_256 (by decide) (z_ireturn dX5_turnOf_257 rfl (Nat.le_of_ble_eq_true rfl) (Nat.le_of_ble_eq_true rfl) ?_)))) (fun c => absurd (rfl) c))))))) (fun c => absurd (rfl) c))))))
        exact h
theorem M_turnOfx {x : Int32} {c : Nat} (hx : x = nI c) (hc : c < 256) (h : Q (rI (turnF (nI c))) μ) : Ct RX5 cX5_turnOf (1, some .int, [], false, rmm 2 0 0) [vi x] μ Q := by subst hx; exact M_turnOf hc h
def SNm : Nat → Nat → Nat → Prop := fun p i k => i = 0 ∧ ((p = 50 ∧ (k = 4 ∨ k = 6)) ∨ p = 87)
theorem nSNm : ¬ SNm 50 0 5 ∧ ∀ j, ¬ SNm 53 0 j := ⟨fun q => by have := q.2; omega, fun j q => by have := q.2; omega⟩
def NRES (μ : Mem) (Q : Res → Mem → Prop) (r : Nat ⊕ List Int32) : Prop := match r with
  | .inl x => ∀ μ', Dif SNm μ μ' → gI μ' 50 0 6 = nI x → Q (rI (-1)) μ'
  | .inr l => ∀ μ', Dif SNm μ μ' → rowJ (gI μ' 87 0) l → l.length ≤ 48 → Q (rI (nI l.length)) μ'
theorem NRES.l {x : Nat} {r : Nat ⊕ List Int32} (hc : r = .inl x) (k : ∀ μ', Dif SNm μ μ' → gI μ' 50 0 6 = nI x → Q (rI (-1)) μ') : NRES μ Q r := by subst hc; exact k
theorem NRES.r {l : List Int32} {r : Nat ⊕ List Int32} (hc : r = .inr l) (k : ∀ μ', Dif SNm μ μ' → rowJ (gI μ' 87 0) l → l.length ≤ 48 → Q (rI (nI l.length)) μ') : NRES μ Q r := by subst hc; exact k
theorem pcs_len (t : Int32) : (pcsF t).length = 1 ∨ (pcsF t).length = 2 := by
  unfold pcsF
  split
  · exact Or.inl rfl
  · exact Or.inr rfl
theorem nmL_len (T : Nat → Int32) : ∀ (k : Nat) (q : List Int32 × Bool), nmL T k = .inr q → q.1.length ≤ 2 * k ∧ k ≤ 24
  | 0, q, h => by cases h; exact ⟨Nat.le_refl _, by decide⟩
  | k + 1, q, h => by
    rw [nmL] at h
    cases hc : nmL T k with
    | inl x => rw [hc] at h; cases h
    | inr r =>
      rw [hc] at h
      dsimp only at h
      obtain ⟨h1, h2⟩ := nmL_len T k r hc
      split at h
      · cases h
      · rename_i z
        cases h
        have hp := pcs_len (turnF (T k &&& 255))
        refine ⟨?_, ?_⟩
        · show (r.1 ++ pcsF (turnF (T k &&& 255))).length ≤ _
          rw [List.length_append]; omega
        · have : k ≠ 24 := fun w => z (Or.inr (Or.inl w))
          omega
theorem nmL_stop (T : Nat → Int32) {k x : Nat} (h : nmL T k = .inl x) : ∀ m, nmL T (k + m) = .inl x
  | 0 => h
  | m + 1 => by rw [← Nat.add_assoc, nmL, nmL_stop T h m]
set_option maxRecDepth 4000 in
theorem M_readName (hM : MOK μ) (he : gI μ 50 0 5 = nI e) (he2 : e ≤ 400) (ht : ∀ j, gI μ 53 0 j = T j) (h : NRES μ Q (nmF T e)) : Ct RX5 cX5_readName (5, some .int, [], false, rmm 3 0 0) [vr 50 0] μ Q := by
  refine Ct.of (ls := [some (vr 50 0), none, none, none, none]) rfl fun Γ C ad => ?_
  refine z_iconst (v := 0) dX5_readName_0 (by decide) (z_istore1 dX5_readName_1 (z_bipush (v := 32) dX5_readName_2 (by decide) (z_istore2 dX5_readName_4 (z_aload0 dX5_readName_5 (z_iconst (v := 0) dX5_readName_6 (by decide) (z_putI fl_X5_187 dX5_readName_7 rfl rfl ⟨rfl, rfl⟩ ?_))))))
  have lp : ∀ k, k ≤ e → ∀ (l : List Int32) (g : Bool) (w : Int32) (μ1 : Mem) (o3 o4 : Option AV), nmL T k = .inr (l, g) → isGp w = g → Dif SNm μ μ1 → gI μ1 50 0 4 = nI k → rowJ (gI μ1 87 0) l →
      Z RX5 cX5_readName (5, some .int, [], false, rmm 3 0 0) (Γ, C, μ, ad, Q) 0 0 μ1 10 [some (vr 50 0), some (vi (nI l.length)), some (vi w), o3, o4] [] := by
    refine loopN (P := fun k => ∀ (l : List Int32) (g : Bool) (w : Int32) (μ1 : Mem) (o3 o4 : Option AV), nmL T k = .inr (l, g) → isGp w = g → Dif SNm μ μ1 → gI μ1 50 0 4 = nI k → rowJ (gI μ1 87 0) l →
      Z RX5 cX5_readName (5, some .int, [], false, rmm 3 0 0) (Γ, C, μ, ad, Q) 0 0 μ1 10 [some (vr 50 0), some (vi (nI l.length)), some (vi w), o3, o4] []) e ?_ ?_
    · intro l g w μ1 o3 o4 hn hg hD h4 hrow
      have h5 : gI μ1 50 0 5 = nI e := (hD.2 _ _ _ nSNm.1).trans he
      have hl := (nmL_len T e _ hn).1
      have hk := (nmL_len T e _ hn).2
      unfold nmF at h
      rw [hn] at h
      dsimp only at h
      have h6 : gI (sI μ1 50 0 6 (gI μ1 50 0 5)) 50 0 6 = nI e := by rw [gI_sI, if_pos ⟨rfl, rfl, rfl⟩]; exact h5
      have hD2 : Dif SNm μ (sI μ1 50 0 6 (gI μ1 50 0 5)) := hD.tr (Dif.sI ⟨rfl, by omega⟩)
      cases g with
      | true =>
        rw [if_pos rfl] at h
        refine z_aload0 dX5_readName_10 (z_getI fl_X5_187 dX5_readName_11 rfl rfl (z_aload0 dX5_readName_14 (z_getI fl_X5_184 dX5_readName_15 rfl rfl (z_icmp_ge 132 dX5_readName_18 (by decide) (fun _ => z_aload0 dX5_readName_132 (z_aload0 dX5_readName_133 (z_getI fl_X5_184 dX5_readName_134 rfl rfl (z_putI fl_X5_194 dX5_readName_137 rfl rfl ⟨rfl, rfl⟩ (z_iload2 dX5_readName_140 (z_invS1 (md_X5_isGap _) cs_X5_382 dX5_readName_141 rfl (Nat.le_of_ble_eq_true rfl) (Rm.ofB rfl) (M_isGap (z_if_eq 151 dX5_readName_144 (by decide) (fun c => absurd c ((by rw [hg]; exact n10))) (fun _ => z_iconst (v := (-1)) dX5_readName_147 (by decide) (z_goto 152 dX5_readName_148 (by decide) (z_ireturn dX5_readName_152 rfl (Nat.le_of_ble_eq_true rfl) (Nat.le_of_ble_eq_true rfl) ?_))))))))))) (fun c => absurd ((by rw [h4, h5]; exact Int32.le_refl _)) c)))))
        exact h _ hD2 h6
      | false =>
        rw [if_neg (by decide)] at h
        refine z_aload0 dX5_readName_10 (z_getI fl_X5_187 dX5_readName_11 rfl rfl (z_aload0 dX5_readName_14 (z_getI fl_X5_184 dX5_readName_15 rfl rfl (z_icmp_ge 132 dX5_readName_18 (by decide) (fun _ => z_aload0 dX5_readName_132 (z_aload0 dX5_readName_133 (z_getI fl_X5_184 dX5_readName_134 rfl rfl (z_putI fl_X5_194 dX5_readName_137 rfl rfl ⟨rfl, rfl⟩ (z_iload2 dX5_readName_140 (z_invS1 (md_X5_isGap _) cs_X5_382 dX5_readName_141 rfl (Nat.le_of_ble_eq_true rfl) (Rm.ofB rfl) (M_isGap (z_if_eq 151 dX5_readName_144 (by decide) (fun _ => z_iload1 dX5_readName_151 (z_ireturn dX5_readName_152 rfl (Nat.le_of_ble_eq_true rfl) (Nat.le_of_ble_eq_true rfl) ?_)) (fun c => absurd ((by rw [hg]; rfl)) c))))))))) (fun c => absurd ((by rw [h4, h5]; exact Int32.le_refl _)) c)))))
        exact h _ hD2 (fun j hj => by rw [gI_sI, if_neg (by simp)]; exact hrow j hj) (by show l.length ≤ 48; have : l.length ≤ 2 * e := hl; omega)
    · intro k hk ih l g w μ1 o3 o4 hn hg hD h4 hrow
      have h5 : gI μ1 50 0 5 = nI e := (hD.2 _ _ _ nSNm.1).trans he
      have hM1 : MOK μ1 := hM.of hD.1
      have hlen : l.length ≤ 2 * k := (nmL_len T k _ hn).1
      have hk24 : k ≤ 24 := (nmL_len T k _ hn).2
      have ht1 : gI μ1 53 0 k = T k := (hD.2 _ _ _ (nSNm.2 k)).trans (ht k)
      obtain ⟨c, hc, ec⟩ : ∃ c : Nat, c < 256 ∧ T k &&& 255 = nI c := by
        obtain ⟨c, h1, h2⟩ := pk_andE (T k) (m := 255) 8 (by decide)
        exact ⟨c, h1, h2⟩
      have nmS : nmL T (k + 1) = if turnF (T k &&& 255) = 0 ∨ k = 24 ∨ (turnF (T k &&& 255) = 60 ∧ g = true) then .inl k else .inr (l ++ pcsF (turnF (T k &&& 255)), decide (turnF (T k &&& 255) = 60)) := by rw [nmL, hn]
      obtain ⟨t1, t2, t3⟩ := turn_ok c hc
      rw [ec] at nmS
      have hlt : ¬ gI μ1 50 0 5 ≤ gI μ1 50 0 4 := by rw [h4, h5]; exact nI_ge hk (by omega)
      have ix : Ix (gI μ1 50 0 4) k 400 := ⟨h4, by omega, by decide⟩
      have h42 : gI (sI μ1 50 0 6 (gI μ1 50 0 4)) 50 0 4 = nI k := by rw [gI_sI, if_neg (by simp)]; exact h4
      have hD2 : Dif SNm μ (sI μ1 50 0 6 (gI μ1 50 0 4)) := hD.tr (Dif.sI ⟨rfl, by omega⟩)
      have bad : (turnF (nI c) = 0 ∨ k = 24 ∨ (turnF (nI c) = 60 ∧ g = true)) → ∀ o3 o4, Z RX5 cX5_readName (5, some .int, [], false, rmm 3 0 0) (Γ, C, μ, ad, Q) 0 0 (sI μ1 50 0 6 (gI μ1 50 0 4)) 77 [some (vr 50 0), some (vi (nI l.length)), some (vi w), o3, o4] [] := by
        intro q o3 o4
        rw [if_pos q] at nmS
        have hf : nmF T e = .inl k := by
          unfold nmF
          have := nmL_stop T nmS (e - (k + 1))
          rw [show k + 1 + (e - (k + 1)) = e by omega] at this
          rw [this]
        rw [hf] at h
        refine z_iconst (v := (-1)) dX5_readName_77 (by decide) (z_ireturn dX5_readName_78 rfl (Nat.le_of_ble_eq_true rfl) (Nat.le_of_ble_eq_true rfl) ?_)
        exact h _ hD2 (by rw [gI_sI, if_pos ⟨rfl, rfl, rfl⟩]; exact h4)
      have hg60 : isGp (T k &&& 255) = decide (turnF (nI c) = 60) := by
        rw [ec]
        by_cases z : turnF (nI c) = 60
        · rw [decide_eq_true z]; exact t1.mp z
        · rw [decide_eq_false z]
          cases w2 : isGp (nI c) with
          | true => exact absurd (t1.mpr w2) z
          | false => rfl
      have j79 : ¬ (turnF (nI c) = 0 ∨ k = 24 ∨ (turnF (nI c) = 60 ∧ g = true)) → Z RX5 cX5_readName (5, some .int, [], false, rmm 3 0 0) (Γ, C, μ, ad, Q) (0) (0) (sI μ1 50 0 6 (gI μ1 50 0 4)) 79 [some (vr 50 0), some (vi (nI l.length)), some (vi w), some (vi (T k &&& 255)), some (vi (turnF (nI c)))] [] := by
        intro q
        rw [if_neg q] at nmS
        have hk23 : k < 24 := by omega
        have hM2 : MOK (sI μ1 50 0 6 (gI μ1 50 0 4)) := hM1
        by_cases q256 : turnF (nI c) < 256
        · have ep : pcsF (turnF (nI c)) = [turnF (nI c) - turnF (nI c) / 256 * 256] := by unfold pcsF; rw [if_pos q256]
          rw [ep] at nmS
          refine z_aload0 dX5_readName_79 (z_getP (v := some (87, 0)) fl_X5_73 dX5_readName_80 rfl rfl (hM2 36 rfl) (z_iload1 dX5_readName_83 (z_iload4 dX5_readName_84 (z_sipush (v := 256) dX5_readName_86 (by decide) (z_irem dX5_readName_89 (by decide) (z_iast dX5_readName_90 rfl ⟨rfl, (show l.length < 48 by omega), Nat.le_of_ble_eq_true rfl⟩ (z_iinc1 dX5_readName_91 (inc1 l.length) (z_iload4 dX5_readName_94 (z_sipush (v := 256) dX5_readName_96 (by decide) (z_icmp_lt 117 dX5_readName_99 (by decide) (fun _ => z_iload3 dX5_readName_117 (z_istore2 dX5_readName_118 (z_aload0 dX5_readName_119 (z_dupa dX5_readName_120 (z_getI fl_X5_187 dX5_readName_121 rfl rfl (z_iconst (v := 1) dX5_readName_124 (by decide) (z_iadd dX5_readName_125 (z_putI fl_X5_187 dX5_readName_126 rfl rfl ⟨rfl, rfl⟩ (z_goto 10 dX5_readName_129 (by decide) ?_))))))))) (fun c => absurd (q256) c)))))))))))
          have := ih (l ++ [turnF (nI c) - turnF (nI c) / 256 * 256]) _ (T k &&& 255) (sI (sI (sI μ1 50 0 6 (gI μ1 50 0 4)) 87 0 l.length (turnF (nI c) - turnF (nI c) / 256 * 256)) 50 0 4 (gI (sI (sI μ1 50 0 6 (gI μ1 50 0 4)) 87 0 l.length (turnF (nI c) - turnF (nI c) / 256 * 256)) 50 0 4 + 1)) (some (vi (T k &&& 255))) (some (vi (turnF (nI c)))) nmS hg60 ((hD2.tr (Dif.sI ⟨rfl, Or.inr rfl⟩)).tr (Dif.sI ⟨rfl, by omega⟩)) (by rw [gI_sI, if_pos ⟨rfl, rfl, rfl⟩, gI_sI, if_neg (by simp), h42, nI_1]) (fun j hj => ?_)
          · rw [List.length_append, List.length_singleton] at this
            exact this
          · rw [List.length_append, List.length_singleton] at hj
            rw [gI_sI, if_neg (by simp), gI_sI]
            split
            · rename_i z; rw [z.2.2, getD_appR (Nat.le_refl _), Nat.sub_self]; rfl
            · rename_i z
              have hjl : j < l.length := by have : j ≠ l.length := fun y => z ⟨rfl, rfl, y⟩; omega
              rw [getD_app hjl, gI_sI, if_neg (by simp)]
              exact hrow j hjl
        · have ep : pcsF (turnF (nI c)) = [turnF (nI c) - turnF (nI c) / 256 * 256, turnF (nI c) / 256] := by unfold pcsF; rw [if_neg q256]
          rw [ep] at nmS
          refine z_aload0 dX5_readName_79 (z_getP (v := some (87, 0)) fl_X5_73 dX5_readName_80 rfl rfl (hM2 36 rfl) (z_iload1 dX5_readName_83 (z_iload4 dX5_readName_84 (z_sipush (v := 256) dX5_readName_86 (by decide) (z_irem dX5_readName_89 (by decide) (z_iast dX5_readName_90 rfl ⟨rfl, (show l.length < 48 by omega), Nat.le_of_ble_eq_true rfl⟩ (z_iinc1 dX5_readName_91 (inc1 l.length) (z_iload4 dX5_readName_94 (z_sipush (v := 256) dX5_readName_96 (by decide) (z_icmp_lt 117 dX5_readName_99 (by decide) (fun c => absurd c (q256)) (fun _ => z_aload0 dX5_readName_102 (z_getP (v := some (87, 0)) fl_X5_73 dX5_readName_103 rfl rfl (hM2 36 rfl) (z_iload1 dX5_readName_106 (z_iload4 dX5_readName_107 (z_sipush (v := 256) dX5_readName_109 (by decide) (z_idiv dX5_readName_112 (by decide) (z_iast dX5_readName_113 rfl ⟨rfl, (show l.length + 1 < 48 by omega), Nat.le_of_ble_eq_true rfl⟩ (z_iinc1 dX5_readName_114 (inc1 (l.length + 1)) (z_iload3 dX5_readName_117 (z_istore2 dX5_readName_118 (z_aload0 dX5_readName_119 (z_dupa dX5_readName_120 (z_getI fl_X5_187 dX5_readName_121 rfl rfl (z_iconst (v := 1) dX5_readName_124 (by decide) (z_iadd dX5_readName_125 (z_putI fl_X5_187 dX5_readName_126 rfl rfl ⟨rfl, rfl⟩ (z_goto 10 dX5_readName_129 (by decide) ?_)))))))))))))))))))))))))))
          have := ih (l ++ [turnF (nI c) - turnF (nI c) / 256 * 256, turnF (nI c) / 256]) _ (T k &&& 255) (sI (sI (sI (sI μ1 50 0 6 (gI μ1 50 0 4)) 87 0 l.length (turnF (nI c) - turnF (nI c) / 256 * 256)) 87 0 (l.length + 1) (turnF (nI c) / 256)) 50 0 4 (gI (sI (sI (sI μ1 50 0 6 (gI μ1 50 0 4)) 87 0 l.length (turnF (nI c) - turnF (nI c) / 256 * 256)) 87 0 (l.length + 1) (turnF (nI c) / 256)) 50 0 4 + 1)) (some (vi (T k &&& 255))) (some (vi (turnF (nI c)))) nmS hg60 (((hD2.tr (Dif.sI ⟨rfl, Or.inr rfl⟩)).tr (Dif.sI ⟨rfl, Or.inr rfl⟩)).tr (Dif.sI ⟨rfl, by omega⟩)) (by rw [gI_sI, if_pos ⟨rfl, rfl, rfl⟩, gI_sI, if_neg (by simp), gI_sI, if_neg (by simp), h42, nI_1]) (fun j hj => ?_)
          · rw [List.length_append] at this
            exact this
          · rw [List.length_append, List.length_cons, List.length_singleton] at hj
            rw [gI_sI, if_neg (by simp), gI_sI]
            split
            · rename_i z; rw [z.2.2, getD_appR (by omega), show l.length + 1 - l.length = 1 by omega]; rfl
            · rename_i z
              have hj1 : j ≠ l.length + 1 := fun y => z ⟨rfl, rfl, y⟩
              rw [gI_sI]
              split
              · rename_i z2; rw [z2.2.2, getD_appR (Nat.le_refl _), Nat.sub_self]; rfl
              · rename_i z2
                have hjl : j < l.length := by have : j ≠ l.length := fun y => z2 ⟨rfl, rfl, y⟩; omega
                rw [getD_app hjl, gI_sI, if_neg (by simp)]
                exact hrow j hjl
      by_cases q24 : k = 24
      · refine z_aload0 dX5_readName_10 (z_getI fl_X5_187 dX5_readName_11 rfl rfl (z_aload0 dX5_readName_14 (z_getI fl_X5_184 dX5_readName_15 rfl rfl (z_icmp_ge 132 dX5_readName_18 (by decide) (fun c => absurd c (hlt)) (fun _ => z_aload0 dX5_readName_21 (z_getP (v := some (53, 0)) fl_X5_9 dX5_readName_22 rfl rfl (hM1 2 rfl) (z_aload0 dX5_readName_25 (z_getI fl_X5_187 dX5_readName_26 rfl rfl (z_baldv dX5_readName_29 rfl ix (ht1) (z_sipush (v := 255) dX5_readName_30 (by decide) (z_iand dX5_readName_33 (z_istore3 dX5_readName_34 (z_iload3 dX5_readName_35 (z_invS1 (md_X5_turnOf _) cs_X5_379 dX5_readName_36 rfl (Nat.le_of_ble_eq_true rfl) (Rm.ofB rfl) (M_turnOfx ec hc (z_istore4 dX5_readName_39 (z_aload0 dX5_readName_41 (z_aload0 dX5_readName_42 (z_getI fl_X5_187 dX5_readName_43 rfl rfl (z_putI fl_X5_194 dX5_readName_46 rfl rfl ⟨rfl, rfl⟩ (z_aload0 dX5_readName_49 (z_getI fl_X5_187 dX5_readName_50 rfl rfl (z_bipush (v := 24) dX5_readName_53 (by decide) (z_icmp_eq 77 dX5_readName_55 (by decide) (fun _ => ?_) (fun c => absurd ((by rw [h42, q24]; rfl)) c)))))))))))))))))))))))))
        exact bad (Or.inr (Or.inl q24)) _ _
      · have ne24 : ¬ gI (sI μ1 50 0 6 (gI μ1 50 0 4)) 50 0 4 = 24 := by rw [h42]; exact fun z => q24 ((nI_eq (b := 24) (by omega) (by decide)).mp z)
        by_cases q0 : turnF (nI c) = 0
        · refine z_aload0 dX5_readName_10 (z_getI fl_X5_187 dX5_readName_11 rfl rfl (z_aload0 dX5_readName_14 (z_getI fl_X5_184 dX5_readName_15 rfl rfl (z_icmp_ge 132 dX5_readName_18 (by decide) (fun c => absurd c (hlt)) (fun _ => z_aload0 dX5_readName_21 (z_getP (v := some (53, 0)) fl_X5_9 dX5_readName_22 rfl rfl (hM1 2 rfl) (z_aload0 dX5_readName_25 (z_getI fl_X5_187 dX5_readName_26 rfl rfl (z_baldv dX5_readName_29 rfl ix (ht1) (z_sipush (v := 255) dX5_readName_30 (by decide) (z_iand dX5_readName_33 (z_istore3 dX5_readName_34 (z_iload3 dX5_readName_35 (z_invS1 (md_X5_turnOf _) cs_X5_379 dX5_readName_36 rfl (Nat.le_of_ble_eq_true rfl) (Rm.ofB rfl) (M_turnOfx ec hc (z_istore4 dX5_readName_39 (z_aload0 dX5_readName_41 (z_aload0 dX5_readName_42 (z_getI fl_X5_187 dX5_readName_43 rfl rfl (z_putI fl_X5_194 dX5_readName_46 rfl rfl ⟨rfl, rfl⟩ (z_aload0 dX5_readName_49 (z_getI fl_X5_187 dX5_readName_50 rfl rfl (z_bipush (v := 24) dX5_readName_53 (by decide) (z_icmp_eq 77 dX5_readName_55 (by decide) (fun c => absurd c (ne24)) (fun _ => z_iload4 dX5_readName_58 (z_if_eq 77 dX5_readName_60 (by decide) (fun _ => ?_) (fun c => absurd (q0) c)))))))))))))))))))))))))))
          exact bad (Or.inl q0) _ _
        · by_cases q60 : turnF (nI c) = 60
          · have hgp : isGp (T k &&& 255) = true := by rw [hg60]; exact decide_eq_true q60
            cases g with
            | true =>
              refine z_aload0 dX5_readName_10 (z_getI fl_X5_187 dX5_readName_11 rfl rfl (z_aload0 dX5_readName_14 (z_getI fl_X5_184 dX5_readName_15 rfl rfl (z_icmp_ge 132 dX5_readName_18 (by decide) (fun c => absurd c (hlt)) (fun _ => z_aload0 dX5_readName_21 (z_getP (v := some (53, 0)) fl_X5_9 dX5_readName_22 rfl rfl (hM1 2 rfl) (z_aload0 dX5_readName_25 (z_getI fl_X5_187 dX5_readName_26 rfl rfl (z_baldv dX5_readName_29 rfl ix (ht1) (z_sipush (v := 255) dX5_readName_30 (by decide) (z_iand dX5_readName_33 (z_istore3 dX5_readName_34 (z_iload3 dX5_readName_35 (z_invS1 (md_X5_turnOf _) cs_X5_379 dX5_readName_36 rfl (Nat.le_of_ble_eq_true rfl) (Rm.ofB rfl) (M_turnOfx ec hc (z_istore4 dX5_readName_39 (z_aload0 dX5_readName_41 (z_aload0 dX5_readName_42 (z_getI fl_X5_187 dX5_readName_43 rfl rfl (z_putI fl_X5_194 dX5_readName_46 rfl rfl ⟨rfl, rfl⟩ (z_aload0 dX5_readName_49 (z_getI fl_X5_187 dX5_readName_50 rfl rfl (z_bipush (v := 24) dX5_readName_53 (by decide) (z_icmp_eq 77 dX5_readName_55 (by decide) (fun c => absurd c (ne24)) (fun _ => z_iload4 dX5_readName_58 (z_if_eq 77 dX5_readName_60 (by decide) (fun c => absurd c (q0)) (fun _ => z_iload3 dX5_readName_63 (z_invS1 (md_X5_isGap _) cs_X5_382 dX5_readName_64 rfl (Nat.le_of_ble_eq_true rfl) (Rm.ofB rfl) (M_isGap (z_if_eq 79 dX5_readName_67 (by decide) (fun c => absurd c ((by rw [hgp]; exact n10))) (fun _ => z_iload2 dX5_readName_70 (z_invS1 (md_X5_isGap _) cs_X5_382 dX5_readName_71 rfl (Nat.le_of_ble_eq_true rfl) (Rm.ofB rfl) (M_isGap (z_if_eq 79 dX5_readName_74 (by decide) (fun c => absurd c ((by rw [hg]; exact n10))) (fun _ => ?_)))))))))))))))))))))))))))))))))))
              exact bad (Or.inr (Or.inr ⟨q60, rfl⟩)) _ _
            | false =>
              refine z_aload0 dX5_readName_10 (z_getI fl_X5_187 dX5_readName_11 rfl rfl (z_aload0 dX5_readName_14 (z_getI fl_X5_184 dX5_readName_15 rfl rfl (z_icmp_ge 132 dX5_readName_18 (by decide) (fun c => absurd c (hlt)) (fun _ => z_aload0 dX5_readName_21 (z_getP (v := some (53, 0)) fl_X5_9 dX5_readName_22 rfl rfl (hM1 2 rfl) (z_aload0 dX5_readName_25 (z_getI fl_X5_187 dX5_readName_26 rfl rfl (z_baldv dX5_readName_29 rfl ix (ht1) (z_sipush (v := 255) dX5_readName_30 (by decide) (z_iand dX5_readName_33 (z_istore3 dX5_readName_34 (z_iload3 dX5_readName_35 (z_invS1 (md_X5_turnOf _) cs_X5_379 dX5_readName_36 rfl (Nat.le_of_ble_eq_true rfl) (Rm.ofB rfl) (M_turnOfx ec hc (z_istore4 dX5_readName_39 (z_aload0 dX5_readName_41 (z_aload0 dX5_readName_42 (z_getI fl_X5_187 dX5_readName_43 rfl rfl (z_putI fl_X5_194 dX5_readName_46 rfl rfl ⟨rfl, rfl⟩ (z_aload0 dX5_readName_49 (z_getI fl_X5_187 dX5_readName_50 rfl rfl (z_bipush (v := 24) dX5_readName_53 (by decide) (z_icmp_eq 77 dX5_readName_55 (by decide) (fun c => absurd c (ne24)) (fun _ => z_iload4 dX5_readName_58 (z_if_eq 77 dX5_readName_60 (by decide) (fun c => absurd c (q0)) (fun _ => z_iload3 dX5_readName_63 (z_invS1 (md_X5_isGap _) cs_X5_382 dX5_readName_64 rfl (Nat.le_of_ble_eq_true rfl) (Rm.ofB rfl) (M_isGap (z_if_eq 79 dX5_readName_67 (by decide) (fun c => absurd c ((by rw [hgp]; exact n10))) (fun _ => z_iload2 dX5_readName_70 (z_invS1 (md_X5_isGap _) cs_X5_382 dX5_readName_71 rfl (Nat.le_of_ble_eq_true rfl) (Rm.ofB rfl) (M_isGap (z_if_eq 79 dX5_readName_74 (by decide) (fun _ => ?_) (fun c => absurd ((by rw [hg]; rfl)) c)))))))))))))))))))))))))))))))))))
              exact j79 (by rintro (z | z | ⟨-, z⟩); exact q0 z; exact q24 z; cases z)
          · have hgp : isGp (T k &&& 255) = false := by rw [hg60]; exact decide_eq_false q60
            refine z_aload0 dX5_readName_10 (z_getI fl_X5_187 dX5_readName_11 rfl rfl (z_aload0 dX5_readName_14 (z_getI fl_X5_184 dX5_readName_15 rfl rfl (z_icmp_ge 132 dX5_readName_18 (by decide) (fun c => absurd c (hlt)) (fun _ => z_aload0 dX5_readName_21 (z_getP (v := some (53, 0)) fl_X5_9 dX5_readName_22 rfl rfl (hM1 2 rfl) (z_aload0 dX5_readName_25 (z_getI fl_X5_187 dX5_readName_26 rfl rfl (z_baldv dX5_readName_29 rfl ix (ht1) (z_sipush (v := 255) dX5_readName_30 (by decide) (z_iand dX5_readName_33 (z_istore3 dX5_readName_34 (z_iload3 dX5_readName_35 (z_invS1 (md_X5_turnOf _) cs_X5_379 dX5_readName_36 rfl (Nat.le_of_ble_eq_true rfl) (Rm.ofB rfl) (M_turnOfx ec hc (z_istore4 dX5_readName_39 (z_aload0 dX5_readName_41 (z_aload0 dX5_readName_42 (z_getI fl_X5_187 dX5_readName_43 rfl rfl (z_putI fl_X5_194 dX5_readName_46 rfl rfl ⟨rfl, rfl⟩ (z_aload0 dX5_readName_49 (z_getI fl_X5_187 dX5_readName_50 rfl rfl (z_bipush (v := 24) dX5_readName_53 (by decide) (z_icmp_eq 77 dX5_readName_55 (by decide) (fun c => absurd c (ne24)) (fun _ => z_iload4 dX5_readName_58 (z_if_eq 77 dX5_readName_60 (by decide) (fun c => absurd c (q0)) (fun _ => z_iload3 dX5_readName_63 (z_invS1 (md_X5_isGap _) cs_X5_382 dX5_readName_64 rfl (Nat.le_of_ble_eq_true rfl) (Rm.ofB rfl) (M_isGap (z_if_eq 79 dX5_readName_67 (by decide) (fun _ => ?_) (fun c => absurd ((by rw [hgp]; rfl)) c)))))))))))))))))))))))))))))))
            exact j79 (by rintro (z | z | ⟨z, -⟩); exact q0 z; exact q24 z; exact q60 z)
  exact lp 0 (Nat.zero_le _) [] true 32 _ _ _ rfl rfl (Dif.sI ⟨rfl, by omega⟩) (by rw [gI_sI, if_pos ⟨rfl, rfl, rfl⟩]; rfl) (fun j hj => absurd hj (Nat.not_lt_zero _))
theorem TM.nm (h : TM σ Λ μ) (hD : Dif SNm μ μ') : TM σ Λ μ' := by
  have n1 : ∀ c, c < 40 → mp c ≠ 87 := by decide +kernel
  have h7 : ∀ c, c < 40 → mp c = 50 → c = 7 ∨ c = 34 := by decide +kernel
  have h8 : ∀ j, j < 6 → tS.getD j 0 ≠ 4 ∧ tS.getD j 0 ≠ 6 := by decide +kernel
  have h9 : ∀ j, j < 18 → tT.getD j 0 ≠ 4 ∧ tT.getD j 0 ≠ 6 := by decide +kernel
  refine h.go (h.2.1.dif hD ?_) hD (fun p i k q => by have := q.2; omega) ((hD.2 _ _ _ fun q => by have := q.2; omega).trans h.2.2.1) rfl (fun _ => rfl)
  rintro p k ⟨-, c, j, hs, rfl, rfl⟩ ⟨-, q⟩
  rcases q with ⟨q, q2⟩ | q
  · rcases h7 c (sM_lt hs) q with rfl | rfl
    · have := h8 j (sM_7 hs)
      have e : ms 7 j = tS.getD j 0 := rfl
      rw [e] at q2; omega
    · have := h9 j (sM_34 hs)
      have e : ms 34 j = tT.getD j 0 := rfl
      rw [e] at q2; omega
  · exact n1 c (sM_lt hs) q
set_option maxRecDepth 4000 in
theorem P_name {p : Int32} (hI : TM σ Λ μ) {s : Nat} (hs : σ 34 15 = nI s) (hs2 : s ≤ 400) {n : Nat} (hn : σ 34 1 = nI n) (hn2 : n ≤ 80) (h : ∀ μ', TM (pName σ p).1 Λ μ' → Fm μ μ' → gI μ' 50 0 0 = (pName σ p).2.1 → Q (rI (pName σ p).2.2) μ') : Ct RX5 cX5_name (4, some .int, [], false, rmm 4 0 0) [vr 50 0, vi p] μ Q := by
  refine Ct.of (ls := [some (vr 50 0), some (vi p), none, none]) rfl fun Γ C ad => ?_
  have es : tn (σ 34 15) = s := by rw [hs, tn_nI (by omega)]
  unfold pName at h
  rw [es] at h
  have e3 : gI (sI μ 50 0 0 0) 50 0 3 = nI s := ((hI.th (v := 0)).2.1.s34 15 (by decide)).trans hs
  generalize hμ1 : sI (sI (sI (sI μ 50 0 0 0) 50 0 5 (gI (sI μ 50 0 0 0) 50 0 3)) 50 0 3 0) 50 0 4 0 = μ1
  have T1 : TM (up2 σ 34 15 0) Λ μ1 := by rw [← hμ1]; exact (((hI.th (v := 0)).sF (k := 5) (by decide)).s34 15 0 (by decide)).sF (k := 4) (by decide)
  have F1 : Fm μ μ1 := by rw [← hμ1]; exact Fm.rf.sI.sI.sI.sI
  have z1 : gI μ1 50 0 0 = 0 := by rw [← hμ1]; simp [gI_sI]
  have e5 : gI μ1 50 0 5 = nI s := by rw [← hμ1, e3]; simp [gI_sI]
  have ht : ∀ j, gI μ1 53 0 j = σ 35 j := fun j => (T1.2.1.col 35 j (by decide)).trans (by rw [up2_eq, if_neg (by simp)])
  have hR1 := T1.2.1
  have e34 : ∀ τ : Sg, τ = up2 σ 34 15 0 → τ 34 1 = σ 34 1 := fun τ q => by rw [q, up2_eq, if_neg (by simp)]
  by_cases h1 : isP σ p
  · rw [if_neg (nn h1)] at h
    have h1' : isP (up2 σ 34 15 0) p := by unfold isP; rw [e34 _ rfl]; exact h1
    obtain ⟨x, hx, ex⟩ := lt_nI hn (by omega) h1
    rw [ex, tn_nI (by omega)] at h
    cases hp : nmF (σ 35) s with
    | inl y =>
      rw [hp] at h
      refine z_aload0 dX5_name_0 (z_invV0 (md_X5_uses _) cv_X5_311 rfl dX5_name_1 rfl (Nat.le_of_ble_eq_true rfl) (Rm.ofB rfl) (M_uses hμ1 (z_aload0 dX5_name_4 (z_aload0 dX5_name_5 (z_iload1 dX5_name_6 (z_invV1 (md_X5_nobody _) cv_X5_385 rfl dX5_name_7 rfl (Nat.le_of_ble_eq_true rfl) (Rm.ofB rfl) (M_nobodyF hR1 h1' (z_iconst (v := 1) dX5_name_10 (by decide) (z_invV2 (md_X5_throwsIf _) cv_X5_321 rfl dX5_name_11 rfl (Nat.le_of_ble_eq_true rfl) (Rm.ofB rfl) (M_thrF (z_if_eq 19 dX5_name_14 (by decide) (fun _ => z_aload0 dX5_name_19 (z_invV0 (md_X5_readName _) cv_X5_388 rfl dX5_name_20 rfl (Nat.le_of_ble_eq_true rfl) (Rm.ofB rfl) (M_readName T1.1 e5 hs2 ht (NRES.l hp fun μ2 hD2 hx2 => ?_)))) (fun c => absurd (rfl) c))))))))))))
      have T2 := T1.nm hD2
      have T3 := T2.s34 14 (nI y) (by decide)
      have F2 : Fm μ μ2 := F1.tr (hD2.mono fun _ _ _ q => by have := q.2; omega)
      refine z_istore2 dX5_name_23 (z_aload0 dX5_name_24 (z_iload2 dX5_name_25 (z_if_ge 36 dX5_name_26 (by decide) (fun c => absurd c ((by decide))) (fun _ => z_aload0 dX5_name_29 (z_getI fl_X5_194 dX5_name_30 rfl rfl (z_goto 37 dX5_name_33 (by decide) (z_putI fl_X5_13 dX5_name_37 rfl rfl ⟨rfl, rfl⟩ (z_aload0 dX5_name_40 (z_iload2 dX5_name_41 (z_if_ge 49 dX5_name_42 (by decide) (fun c => absurd c ((by decide))) (fun _ => z_iconst (v := 1) dX5_name_45 (by decide) (z_goto 50 dX5_name_46 (by decide) (z_iconst (v := 2) dX5_name_50 (by decide) (z_invV2 (md_X5_throwsIf _) cv_X5_321 rfl dX5_name_51 rfl (Nat.le_of_ble_eq_true rfl) (Rm.ofB rfl) (M_thrT (z_if_eq 59 dX5_name_54 (by decide) (fun c => absurd c (n10)) (fun _ => z_iconst (v := 0) dX5_name_57 (by decide) (z_ireturn dX5_name_58 rfl (Nat.le_of_ble_eq_true rfl) (Nat.le_of_ble_eq_true rfl) ?_))))))))))))))))))
      rw [hx2]
      exact h _ (T3.th) (F2.sI.sI) (by simp [gI_sI])
    | inr l =>
      rw [hp] at h
      dsimp only at h
      refine z_aload0 dX5_name_0 (z_invV0 (md_X5_uses _) cv_X5_311 rfl dX5_name_1 rfl (Nat.le_of_ble_eq_true rfl) (Rm.ofB rfl) (M_uses hμ1 (z_aload0 dX5_name_4 (z_aload0 dX5_name_5 (z_iload1 dX5_name_6 (z_invV1 (md_X5_nobody _) cv_X5_385 rfl dX5_name_7 rfl (Nat.le_of_ble_eq_true rfl) (Rm.ofB rfl) (M_nobodyF hR1 h1' (z_iconst (v := 1) dX5_name_10 (by decide) (z_invV2 (md_X5_throwsIf _) cv_X5_321 rfl dX5_name_11 rfl (Nat.le_of_ble_eq_true rfl) (Rm.ofB rfl) (M_thrF (z_if_eq 19 dX5_name_14 (by decide) (fun _ => z_aload0 dX5_name_19 (z_invV0 (md_X5_readName _) cv_X5_388 rfl dX5_name_20 rfl (Nat.le_of_ble_eq_true rfl) (Rm.ofB rfl) (M_readName T1.1 e5 hs2 ht (NRES.r hp fun μ2 hD2 hrow2 hl2 => ?_)))) (fun c => absurd (rfl) c))))))))))))
      have T2 := T1.nm hD2
      have T3 := T2.s34 14 (-1) (by decide)
      have T4 := T3.sc 36 x 1 (by decide)
      have hM3 := T3.1
      have F2 : Fm μ μ2 := F1.tr (hD2.mono fun _ _ _ q => by have := q.2; omega)
      have z2 : gI μ2 50 0 0 = 0 := (hD2.2 _ _ _ fun q => by have := q.2; omega).trans z1
      refine z_istore2 dX5_name_23 (z_aload0 dX5_name_24 (z_iload2 dX5_name_25 (z_if_ge 36 dX5_name_26 (by decide) (fun _ => z_iconst (v := (-1)) dX5_name_36 (by decide) (z_putI fl_X5_13 dX5_name_37 rfl rfl ⟨rfl, rfl⟩ (z_aload0 dX5_name_40 (z_iload2 dX5_name_41 (z_if_ge 49 dX5_name_42 (by decide) (fun _ => z_iconst (v := 0) dX5_name_49 (by decide) (z_iconst (v := 2) dX5_name_50 (by decide) (z_invV2 (md_X5_throwsIf _) cv_X5_321 rfl dX5_name_51 rfl (Nat.le_of_ble_eq_true rfl) (Rm.ofB rfl) (M_thrF (z_if_eq 59 dX5_name_54 (by decide) (fun _ => z_aload0 dX5_name_59 (z_getP (v := some (84, 0)) fl_X5_67 dX5_name_60 rfl rfl (hM3 33 rfl) (z_iload1 dX5_name_63 (z_iconst (v := 1) dX5_name_64 (by decide) (z_zast dX5_name_65 rfl ⟨ex, (show x < 80 by omega), Nat.le_of_ble_eq_true rfl⟩ rfl (z_iconst (v := 0) dX5_name_66 (by decide) (z_istore3 dX5_name_67 ?_))))))) (fun c => absurd (rfl) c)))))) (fun c => absurd (nI_pos' (by omega)) c)))))) (fun c => absurd (nI_pos' (by omega)) c))))
      refine loopN (P := fun k => ∀ μ3, TM (nameW (up2 (up2 (up2 σ 34 15 0) 34 14 (-1)) 36 x 1) x l k) Λ μ3 → Fm μ μ3 → gI μ3 50 0 0 = 0 → rowJ (gI μ3 87 0) l → Z RX5 cX5_name (4, some .int, [], false, rmm 4 0 0) (Γ, C, μ, ad, Q) (0) (0) (μ3) 68 [some (vr 50 0), some (vi p), some (vi (nI l.length)), some (vi (nI k))] []) 24 ?_ ?_ 0 (Nat.zero_le _) _ T4 (F2.sI.sI) (by simp [gI_sI, z2]) (fun j hj => by rw [gI_sI, if_neg (by simp), gI_sI, if_neg (by simp)]; exact hrow2 j hj)
      · intro μ3 hT3 hF3 h03 hrow3
        refine z_iload3 dX5_name_68 (z_bipush (v := 24) dX5_name_69 (by decide) (z_icmp_ge 107 dX5_name_71 (by decide) (fun _ => z_iload2 dX5_name_107 (z_ireturn dX5_name_108 rfl (Nat.le_of_ble_eq_true rfl) (Nat.le_of_ble_eq_true rfl) ?_)) (fun c => absurd (lpt (n := 24) rfl) c)))
        exact h μ3 hT3 hF3 h03
      · intro k hk ih μ3 hT3 hF3 h03 hrow3
        have hM3 := hT3.1
        rw [nameW] at ih
        have i24' : (24 : Int32) * p + nI k = nI (24 * x + k) := by rw [ex, i24]
        by_cases q : k < l.length
        · rw [if_pos q] at ih
          refine z_iload3 dX5_name_68 (z_bipush (v := 24) dX5_name_69 (by decide) (z_icmp_ge 107 dX5_name_71 (by decide) (fun c => absurd c (lpf (n := 24) rfl hk (by decide))) (fun _ => z_aload0 dX5_name_74 (z_getP (v := some (83, 0)) fl_X5_64 dX5_name_75 rfl rfl (hM3 32 rfl) (z_bipush (v := 24) dX5_name_78 (by decide) (z_iload1 dX5_name_80 (z_imul dX5_name_81 (z_iload3 dX5_name_82 (z_iadd dX5_name_83 (z_iload3 dX5_name_84 (z_iload2 dX5_name_85 (z_icmp_ge 98 dX5_name_86 (by decide) (fun c => absurd c (nI_ge q (by omega))) (fun _ => z_aload0 dX5_name_89 (z_getP (v := some (87, 0)) fl_X5_73 dX5_name_90 rfl rfl (hM3 36 rfl) (z_iload3 dX5_name_93 (z_ialdv dX5_name_94 rfl ⟨rfl, (show k < 48 by omega), Nat.le_of_ble_eq_true rfl⟩ (hrow3 k q) (z_goto 100 dX5_name_95 (by decide) (z_iast dX5_name_100 rfl ⟨i24', (show 24 * x + k < 1920 by omega), Nat.le_of_ble_eq_true rfl⟩ (z_iinc3 dX5_name_101 (inc1 k) (z_goto 68 dX5_name_104 (by decide) ?_))))))))))))))))))))
          exact ih _ (hT3.sc 37 (24 * x + k) _ (by decide)) hF3.sI (by rw [gI_sI, if_neg (by simp)]; exact h03) (fun j hj => by rw [gI_sI, if_neg (by simp)]; exact hrow3 j hj)
        · rw [if_neg q] at ih
          refine z_iload3 dX5_name_68 (z_bipush (v := 24) dX5_name_69 (by decide) (z_icmp_ge 107 dX5_name_71 (by decide) (fun c => absurd c (lpf (n := 24) rfl hk (by decide))) (fun _ => z_aload0 dX5_name_74 (z_getP (v := some (83, 0)) fl_X5_64 dX5_name_75 rfl rfl (hM3 32 rfl) (z_bipush (v := 24) dX5_name_78 (by decide) (z_iload1 dX5_name_80 (z_imul dX5_name_81 (z_iload3 dX5_name_82 (z_iadd dX5_name_83 (z_iload3 dX5_name_84 (z_iload2 dX5_name_85 (z_icmp_ge 98 dX5_name_86 (by decide) (fun _ => z_bipush (v := 60) dX5_name_98 (by decide) (z_iast dX5_name_100 rfl ⟨i24', (show 24 * x + k < 1920 by omega), Nat.le_of_ble_eq_true rfl⟩ (z_iinc3 dX5_name_101 (inc1 k) (z_goto 68 dX5_name_104 (by decide) ?_)))) (fun c => absurd (nI_le (by omega) (by omega)) c)))))))))))))
          exact ih _ (hT3.sc 37 (24 * x + k) _ (by decide)) hF3.sI (by rw [gI_sI, if_neg (by simp)]; exact h03) (fun j hj => by rw [gI_sI, if_neg (by simp)]; exact hrow3 j hj)
  · rw [if_pos h1] at h
    have h1' : ¬ isP (up2 σ 34 15 0) p := by unfold isP; rw [e34 _ rfl]; exact h1
    refine z_aload0 dX5_name_0 (z_invV0 (md_X5_uses _) cv_X5_311 rfl dX5_name_1 rfl (Nat.le_of_ble_eq_true rfl) (Rm.ofB rfl) (M_uses hμ1 (z_aload0 dX5_name_4 (z_aload0 dX5_name_5 (z_iload1 dX5_name_6 (z_invV1 (md_X5_nobody _) cv_X5_385 rfl dX5_name_7 rfl (Nat.le_of_ble_eq_true rfl) (Rm.ofB rfl) (M_nobodyT hR1 h1' (z_iconst (v := 1) dX5_name_10 (by decide) (z_invV2 (md_X5_throwsIf _) cv_X5_321 rfl dX5_name_11 rfl (Nat.le_of_ble_eq_true rfl) (Rm.ofB rfl) (M_thrT (z_if_eq 19 dX5_name_14 (by decide) (fun c => absurd c (n10)) (fun _ => z_iconst (v := 0) dX5_name_17 (by decide) (z_ireturn dX5_name_18 rfl (Nat.le_of_ble_eq_true rfl) (Nat.le_of_ble_eq_true rfl) ?_)))))))))))))
    exact h _ T1.th F1.sI (by rw [gI_sI, if_pos ⟨rfl, rfl, rfl⟩])
end M20
