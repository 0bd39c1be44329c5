/-! the Office: faces, checks, costs, what is got -/
section X3
variable {np na nl nb ng w : Nat} {μ μ' : Mem} {σ : Sg} {Q : Res → Mem → Prop}
theorem tX_0 {v : Int32} : tX v = 0 ↔ v = 0 := by
  unfold tX
  by_cases h1 : v = 1
  · rw [if_pos h1, h1]; decide
  · rw [if_neg h1]
    by_cases h2 : v = 2
    · rw [if_pos h2, h2]; decide
    · rw [if_neg h2]
theorem tX_1 {v : Int32} : tX v = 1 ↔ v = 2 := by
  unfold tX
  by_cases h1 : v = 1
  · rw [if_pos h1, h1]; decide
  · rw [if_neg h1]
    by_cases h2 : v = 2
    · rw [if_pos h2, h2]; decide
    · rw [if_neg h2]; exact ⟨fun q => absurd q h1, fun q => absurd q h2⟩
def fS (σ : Sg) (p k : Nat) : Int32 :=
  if anyB (fun q => nearB σ p q && decide (σ 27 (80 * p + q) = 2)) k then 9
  else if anyB (fun q => nearB σ p q && decide (σ 27 (80 * p + q) = 0)) k then 3 else -1
theorem anyB_mono {g : Nat → Bool} : ∀ {k n : Nat}, k ≤ n → anyB g k = true → anyB g n = true
  | k, 0, h, e => by rw [show k = 0 by omega] at e; exact e
  | k, n + 1, h, e => by
    by_cases q : k = n + 1
    · rw [← q]; exact e
    · rw [anyB, anyB_mono (show k ≤ n by omega) e]; rfl
theorem fS_9 {p k n : Nat} (h : k ≤ n) (e : fS σ p k = 9) : fS σ p n = 9 := by
  unfold fS at e ⊢
  split at e
  · rename_i q
    rw [if_pos (anyB_mono h q)]
  · split at e
    · exact absurd e (by decide)
    · exact absurd e (by decide)
theorem X_face {p : Nat} {x : Int32} (hX : XP np na nl nb ng μ) (hR : RepX w σ μ) (hx : x = nI p) (hp : p < np) (hn : σ 34 1 = nI np) (hn2 : np ≤ 80) (h : Q (rI (fS σ p np)) μ) : Ct RX1 cX1_face (4, some .int, [], false, rmm 2 0 0) [vr 1 0, vi x] μ Q := by
  refine Ct.of (ls := [some (vr 1 0), some (vi x), none, none]) rfl fun Γ C ad => ?_
  subst hx
  refine z_iconst (v := (-1)) dX1_face_0 (by decide) (z_istore2 dX1_face_1 (z_iconst (v := 0) dX1_face_2 (by decide) (z_istore3 dX1_face_3 ?_)))
  refine loopN (P := fun k => Z RX1 cX1_face (4, some .int, [], false, rmm 2 0 0) (Γ, C, μ, ad, Q) (0) (0) (μ) 4 [some (vr 1 0), some (vi (nI p)), some (vi (fS σ p k)), some (vi (nI k))] []) np ?_ ?_ 0 (Nat.zero_le _)
  · refine z_iload3 dX1_face_4 (z_aload0 dX1_face_5 (z_getIv fl_X1_111 dX1_face_6 rfl rfl (hR.t 1 (by decide)) (z_icmp_ge 85 dX1_face_9 (by decide) (fun _ => z_iload2 dX1_face_85 (z_ireturn dX1_face_86 rfl (Nat.le_of_ble_eq_true rfl) (Nat.le_of_ble_eq_true rfl) ?_)) (fun c => absurd (lpt hn) c))))
    exact h
  · intro k hk ih
    have hk2 : k < 80 := by omega
    have hp2 : p < 80 := by omega
    by_cases h9 : fS σ p k = 9
    · rw [fS_9 (Nat.le_of_lt hk) h9] at h
      refine z_iload3 dX1_face_4 (z_aload0 dX1_face_5 (z_getIv fl_X1_111 dX1_face_6 rfl rfl (hR.t 1 (by decide)) (z_icmp_ge 85 dX1_face_9 (by decide) (fun c => absurd c (lpf hn hk (by omega))) (fun _ => z_iload2 dX1_face_12 (z_bipush (v := 9) dX1_face_13 (by decide) (z_icmp_eq 85 dX1_face_15 (by decide) (fun _ => z_iload2 dX1_face_85 (z_ireturn dX1_face_86 rfl (Nat.le_of_ble_eq_true rfl) (Nat.le_of_ble_eq_true rfl) ?_)) (fun c => absurd (h9) c)))))))
      rw [h9]
      exact h
    · have keep : fS σ p (k + 1) = fS σ p k → Z RX1 cX1_face (4, some .int, [], false, rmm 2 0 0) (Γ, C, μ, ad, Q) (0) (0) (μ) 79 [some (vr 1 0), some (vi (nI p)), some (vi (fS σ p k)), some (vi (nI k))] [] := by
        intro e
        rw [e] at ih
        refine z_iinc3 dX1_face_79 (inc1 k) (z_goto 4 dX1_face_82 (by decide) ?_)
        exact ih
      have n9 : anyB (fun q => nearB σ p q && decide (σ 27 (80 * p + q) = 2)) k = false := by
        cases q : anyB (fun q => nearB σ p q && decide (σ 27 (80 * p + q) = 2)) k with
        | false => rfl
        | true => exact absurd (by rw [fS, if_pos q]) h9
      by_cases hkp : k = p
      · refine z_iload3 dX1_face_4 (z_aload0 dX1_face_5 (z_getIv fl_X1_111 dX1_face_6 rfl rfl (hR.t 1 (by decide)) (z_icmp_ge 85 dX1_face_9 (by decide) (fun c => absurd c (lpf hn hk (by omega))) (fun _ => z_iload2 dX1_face_12 (z_bipush (v := 9) dX1_face_13 (by decide) (z_icmp_eq 85 dX1_face_15 (by decide) (fun c => absurd c (h9)) (fun _ => z_iload3 dX1_face_18 (z_iload1 dX1_face_19 (z_icmp_eq 79 dX1_face_20 (by decide) (fun _ => ?_) (fun c => absurd (congrArg nI hkp) c))))))))))
        refine keep ?_
        have : nearB σ p k = false := by rw [nearB, hkp]; simp
        rw [fS, fS, anyB, anyB, this]
        simp
      · have hne : ¬ nI k = nI p := fun q => hkp (by have := congrArg Int32.toInt q; rw [nI_toInt (by omega), nI_toInt (by omega)] at this; omega)
        by_cases hf : farF σ p k ≤ σ 34 5
        · have hN : nearB σ p k = true := by rw [nearB, decide_eq_true hkp, decide_eq_false (Int32.not_lt.mpr hf)]; rfl
          by_cases h0 : σ 27 (80 * p + k) = 0
          · refine z_iload3 dX1_face_4 (z_aload0 dX1_face_5 (z_getIv fl_X1_111 dX1_face_6 rfl rfl (hR.t 1 (by decide)) (z_icmp_ge 85 dX1_face_9 (by decide) (fun c => absurd c (lpf hn hk (by omega))) (fun _ => z_iload2 dX1_face_12 (z_bipush (v := 9) dX1_face_13 (by decide) (z_icmp_eq 85 dX1_face_15 (by decide) (fun c => absurd c (h9)) (fun _ => z_iload3 dX1_face_18 (z_iload1 dX1_face_19 (z_icmp_eq 79 dX1_face_20 (by decide) (fun c => absurd c (hne)) (fun _ => z_aload0 dX1_face_23 (z_getP fl_X1_24 dX1_face_24 rfl rfl (hX.f1 2 (by decide)) (z_iload1 dX1_face_27 (z_aald dX1_face_28 rfl (by decide) rfl ⟨rfl, hp2, Nat.le_of_ble_eq_true rfl⟩ (hX.pe hp) (z_aload0 dX1_face_29 (z_getP fl_X1_24 dX1_face_30 rfl rfl (hX.f1 2 (by decide)) (z_iload3 dX1_face_33 (z_aald dX1_face_34 rfl (by decide) rfl ⟨rfl, hk2, Nat.le_of_ble_eq_true rfl⟩ (hX.pe hk) (z_invV1 (md_X12_far _) cv_X1_214 rfl dX1_face_35 rfl (Nat.le_of_ble_eq_true rfl) (Rm.ofB rfl) (X_far hX hR hp hk (z_aload0 dX1_face_38 (z_getIv fl_X1_78 dX1_face_39 rfl rfl (hR.t 5 (by decide)) (z_icmp_le 48 dX1_face_42 (by decide) (fun _ => z_aload0 dX1_face_48 (z_getP fl_X1_30 dX1_face_49 rfl rfl (hX.f1 3 (by decide)) (z_iload1 dX1_face_52 (z_aald dX1_face_53 rfl (by decide) rfl ⟨rfl, hp2, Nat.le_of_ble_eq_true rfl⟩ (hX.tl hp2) (z_iload3 dX1_face_54 (z_baldv dX1_face_55 rfl ⟨rfl, hk2, Nat.le_of_ble_eq_true rfl⟩ (hR.td p k hk2) (z_if_ne 64 dX1_face_56 (by decide) (fun c => absurd (tX_0.mpr h0) c) (fun _ => z_iconst (v := 3) dX1_face_59 (by decide) (z_istore2 dX1_face_60 (z_goto 79 dX1_face_61 (by decide) (z_iinc3 dX1_face_79 (inc1 k) (z_goto 4 dX1_face_82 (by decide) ?_)))))))))))) (fun c => absurd (hf) c)))))))))))))))))))))))
            have e : fS σ p (k + 1) = 3 := by
              rw [fS, anyB, anyB, n9, hN, h0]
              simp
            rw [e] at ih
            exact ih
          · by_cases h2 : σ 27 (80 * p + k) = 2
            · refine z_iload3 dX1_face_4 (z_aload0 dX1_face_5 (z_getIv fl_X1_111 dX1_face_6 rfl rfl (hR.t 1 (by decide)) (z_icmp_ge 85 dX1_face_9 (by decide) (fun c => absurd c (lpf hn hk (by omega))) (fun _ => z_iload2 dX1_face_12 (z_bipush (v := 9) dX1_face_13 (by decide) (z_icmp_eq 85 dX1_face_15 (by decide) (fun c => absurd c (h9)) (fun _ => z_iload3 dX1_face_18 (z_iload1 dX1_face_19 (z_icmp_eq 79 dX1_face_20 (by decide) (fun c => absurd c (hne)) (fun _ => z_aload0 dX1_face_23 (z_getP fl_X1_24 dX1_face_24 rfl rfl (hX.f1 2 (by decide)) (z_iload1 dX1_face_27 (z_aald dX1_face_28 rfl (by decide) rfl ⟨rfl, hp2, Nat.le_of_ble_eq_true rfl⟩ (hX.pe hp) (z_aload0 dX1_face_29 (z_getP fl_X1_24 dX1_face_30 rfl rfl (hX.f1 2 (by decide)) (z_iload3 dX1_face_33 (z_aald dX1_face_34 rfl (by decide) rfl ⟨rfl, hk2, Nat.le_of_ble_eq_true rfl⟩ (hX.pe hk) (z_invV1 (md_X12_far _) cv_X1_214 rfl dX1_face_35 rfl (Nat.le_of_ble_eq_true rfl) (Rm.ofB rfl) (X_far hX hR hp hk (z_aload0 dX1_face_38 (z_getIv fl_X1_78 dX1_face_39 rfl rfl (hR.t 5 (by decide)) (z_icmp_le 48 dX1_face_42 (by decide) (fun _ => z_aload0 dX1_face_48 (z_getP fl_X1_30 dX1_face_49 rfl rfl (hX.f1 3 (by decide)) (z_iload1 dX1_face_52 (z_aald dX1_face_53 rfl (by decide) rfl ⟨rfl, hp2, Nat.le_of_ble_eq_true rfl⟩ (hX.tl hp2) (z_iload3 dX1_face_54 (z_baldv dX1_face_55 rfl ⟨rfl, hk2, Nat.le_of_ble_eq_true rfl⟩ (hR.td p k hk2) (z_if_ne 64 dX1_face_56 (by decide) (fun _ => z_aload0 dX1_face_64 (z_getP fl_X1_30 dX1_face_65 rfl rfl (hX.f1 3 (by decide)) (z_iload1 dX1_face_68 (z_aald dX1_face_69 rfl (by decide) rfl ⟨rfl, hp2, Nat.le_of_ble_eq_true rfl⟩ (hX.tl hp2) (z_iload3 dX1_face_70 (z_baldv dX1_face_71 rfl ⟨rfl, hk2, Nat.le_of_ble_eq_true rfl⟩ (hR.td p k hk2) (z_iconst (v := 1) dX1_face_72 (by decide) (z_icmp_ne 79 dX1_face_73 (by decide) (fun c => absurd (tX_1.mpr h2) c) (fun _ => z_bipush (v := 9) dX1_face_76 (by decide) (z_istore2 dX1_face_78 (z_iinc3 dX1_face_79 (inc1 k) (z_goto 4 dX1_face_82 (by decide) ?_)))))))))))) (fun c => absurd c ((fun q => h0 (tX_0.mp q))))))))))) (fun c => absurd (hf) c)))))))))))))))))))))))
              have e : fS σ p (k + 1) = 9 := by
                rw [fS, anyB, n9, hN, h2]
                simp
              rw [e] at ih
              exact ih
            · refine z_iload3 dX1_face_4 (z_aload0 dX1_face_5 (z_getIv fl_X1_111 dX1_face_6 rfl rfl (hR.t 1 (by decide)) (z_icmp_ge 85 dX1_face_9 (by decide) (fun c => absurd c (lpf hn hk (by omega))) (fun _ => z_iload2 dX1_face_12 (z_bipush (v := 9) dX1_face_13 (by decide) (z_icmp_eq 85 dX1_face_15 (by decide) (fun c => absurd c (h9)) (fun _ => z_iload3 dX1_face_18 (z_iload1 dX1_face_19 (z_icmp_eq 79 dX1_face_20 (by decide) (fun c => absurd c (hne)) (fun _ => z_aload0 dX1_face_23 (z_getP fl_X1_24 dX1_face_24 rfl rfl (hX.f1 2 (by decide)) (z_iload1 dX1_face_27 (z_aald dX1_face_28 rfl (by decide) rfl ⟨rfl, hp2, Nat.le_of_ble_eq_true rfl⟩ (hX.pe hp) (z_aload0 dX1_face_29 (z_getP fl_X1_24 dX1_face_30 rfl rfl (hX.f1 2 (by decide)) (z_iload3 dX1_face_33 (z_aald dX1_face_34 rfl (by decide) rfl ⟨rfl, hk2, Nat.le_of_ble_eq_true rfl⟩ (hX.pe hk) (z_invV1 (md_X12_far _) cv_X1_214 rfl dX1_face_35 rfl (Nat.le_of_ble_eq_true rfl) (Rm.ofB rfl) (X_far hX hR hp hk (z_aload0 dX1_face_38 (z_getIv fl_X1_78 dX1_face_39 rfl rfl (hR.t 5 (by decide)) (z_icmp_le 48 dX1_face_42 (by decide) (fun _ => z_aload0 dX1_face_48 (z_getP fl_X1_30 dX1_face_49 rfl rfl (hX.f1 3 (by decide)) (z_iload1 dX1_face_52 (z_aald dX1_face_53 rfl (by decide) rfl ⟨rfl, hp2, Nat.le_of_ble_eq_true rfl⟩ (hX.tl hp2) (z_iload3 dX1_face_54 (z_baldv dX1_face_55 rfl ⟨rfl, hk2, Nat.le_of_ble_eq_true rfl⟩ (hR.td p k hk2) (z_if_ne 64 dX1_face_56 (by decide) (fun _ => z_aload0 dX1_face_64 (z_getP fl_X1_30 dX1_face_65 rfl rfl (hX.f1 3 (by decide)) (z_iload1 dX1_face_68 (z_aald dX1_face_69 rfl (by decide) rfl ⟨rfl, hp2, Nat.le_of_ble_eq_true rfl⟩ (hX.tl hp2) (z_iload3 dX1_face_70 (z_baldv dX1_face_71 rfl ⟨rfl, hk2, Nat.le_of_ble_eq_true rfl⟩ (hR.td p k hk2) (z_iconst (v := 1) dX1_face_72 (by decide) (z_icmp_ne 79 dX1_face_73 (by decide) (fun _ => ?_) (fun c => absurd c ((fun q => h2 (tX_1.mp q)))))))))))) (fun c => absurd c ((fun q => h0 (tX_0.mp q))))))))))) (fun c => absurd (hf) c)))))))))))))))))))))))
              refine keep ?_
              rw [fS, fS, anyB, anyB, decide_eq_false h2, decide_eq_false h0]
              simp
        · refine z_iload3 dX1_face_4 (z_aload0 dX1_face_5 (z_getIv fl_X1_111 dX1_face_6 rfl rfl (hR.t 1 (by decide)) (z_icmp_ge 85 dX1_face_9 (by decide) (fun c => absurd c (lpf hn hk (by omega))) (fun _ => z_iload2 dX1_face_12 (z_bipush (v := 9) dX1_face_13 (by decide) (z_icmp_eq 85 dX1_face_15 (by decide) (fun c => absurd c (h9)) (fun _ => z_iload3 dX1_face_18 (z_iload1 dX1_face_19 (z_icmp_eq 79 dX1_face_20 (by decide) (fun c => absurd c (hne)) (fun _ => z_aload0 dX1_face_23 (z_getP fl_X1_24 dX1_face_24 rfl rfl (hX.f1 2 (by decide)) (z_iload1 dX1_face_27 (z_aald dX1_face_28 rfl (by decide) rfl ⟨rfl, hp2, Nat.le_of_ble_eq_true rfl⟩ (hX.pe hp) (z_aload0 dX1_face_29 (z_getP fl_X1_24 dX1_face_30 rfl rfl (hX.f1 2 (by decide)) (z_iload3 dX1_face_33 (z_aald dX1_face_34 rfl (by decide) rfl ⟨rfl, hk2, Nat.le_of_ble_eq_true rfl⟩ (hX.pe hk) (z_invV1 (md_X12_far _) cv_X1_214 rfl dX1_face_35 rfl (Nat.le_of_ble_eq_true rfl) (Rm.ofB rfl) (X_far hX hR hp hk (z_aload0 dX1_face_38 (z_getIv fl_X1_78 dX1_face_39 rfl rfl (hR.t 5 (by decide)) (z_icmp_le 48 dX1_face_42 (by decide) (fun c => absurd c (hf)) (fun _ => z_goto 79 dX1_face_45 (by decide) ?_)))))))))))))))))))))))
          refine keep ?_
          have : nearB σ p k = false := by rw [nearB, decide_eq_true (Int32.not_le.mp hf)]; simp
          rw [fS, fS, anyB, anyB, this]
          simp
theorem chkF_eq {a p : Nat} (hp : σ 12 a = nI p) (hp2 : p < np) (hn : σ 34 1 = nI np) (hn2 : np ≤ 80) : chkF σ a = if fS σ p np ≠ -1 then fS σ p np else if σ 21 a ≠ 0 ∨ σ 34 6 < σ 20 a then 4 else 5 := by
  rw [chkF, hp, hn, tn_nI (by omega), tn_nI (by omega)]
  unfold fS
  split
  · rfl
  · split
    · rfl
    · rfl
theorem X_behind {a p : Nat} (hX : XP np na nl nb ng μ) (hR : RepX w σ μ) (ha : a < na) (hp : σ 12 a = nI p) (hp2 : p < np) (hn : σ 34 1 = nI np) (hn2 : np ≤ 80) (h : Q (rI (chkF σ a)) μ) : Ct RX1 cX1_behindCheck (3, some .int, [], false, rmm 3 0 0) [vr 1 0, vr 33 a] μ Q := by
  refine Ct.of (ls := [some (vr 1 0), some (vr 33 a), none]) rfl fun Γ C ad => ?_
  rw [chkF_eq hp hp2 hn hn2] at h
  refine z_aload0 dX1_behindCheck_0 (z_aload1 dX1_behindCheck_1 (z_getIv fl_X1_218 dX1_behindCheck_2 rfl rfl (hR.q 12 _ (by decide)) (z_invV1 (md_X1_face _) cv_X1_219 rfl dX1_behindCheck_5 rfl (Nat.le_of_ble_eq_true rfl) (Rm.ofB rfl) (X_face hX hR hp hp2 hn hn2 (z_istore2 dX1_behindCheck_8 (z_iload2 dX1_behindCheck_9 (z_iconst (v := (-1)) dX1_behindCheck_10 (by decide) (z_icmp_eq 18 dX1_behindCheck_11 (by decide) (fun c_11 => ?_) (fun c_11 => ?_)))))))))
  · rw [if_neg (nn c_11)] at h
    refine z_aload1 dX1_behindCheck_18 (z_getP fl_X1_222 dX1_behindCheck_19 rfl rfl (hX.ru ha) (z_getIv fl_X1_226 dX1_behindCheck_22 rfl rfl (hR.q 21 _ (by decide)) (z_if_ne 42 dX1_behindCheck_25 (by decide) (fun c_25 => ?_) (fun c_25 => ?_))))
    · rw [if_pos (Or.inl c_25)] at h
      refine z_iconst (v := 4) dX1_behindCheck_42 (by decide) (z_goto 47 dX1_behindCheck_43 (by decide) (z_ireturn dX1_behindCheck_47 rfl (Nat.le_of_ble_eq_true rfl) (Nat.le_of_ble_eq_true rfl) ?_))
      exact h
    · refine z_aload1 dX1_behindCheck_28 (z_getP fl_X1_222 dX1_behindCheck_29 rfl rfl (hX.ru ha) (z_getIv fl_X1_229 dX1_behindCheck_32 rfl rfl (hR.q 20 _ (by decide)) (z_aload0 dX1_behindCheck_35 (z_getIv fl_X1_81 dX1_behindCheck_36 rfl rfl (hR.t 6 (by decide)) (z_icmp_le 46 dX1_behindCheck_39 (by decide) (fun c_39 => ?_) (fun c_39 => ?_))))))
      · rw [if_neg (fun q => q.elim (fun q => q c_25) (fun q => absurd q (Int32.not_lt.mpr c_39)))] at h
        refine z_iconst (v := 5) dX1_behindCheck_46 (by decide) (z_ireturn dX1_behindCheck_47 rfl (Nat.le_of_ble_eq_true rfl) (Nat.le_of_ble_eq_true rfl) ?_)
        exact h
      · rw [if_pos (Or.inr (Int32.not_le.mp c_39))] at h
        refine z_iconst (v := 4) dX1_behindCheck_42 (by decide) (z_goto 47 dX1_behindCheck_43 (by decide) (z_ireturn dX1_behindCheck_47 rfl (Nat.le_of_ble_eq_true rfl) (Nat.le_of_ble_eq_true rfl) ?_))
        exact h
  · rw [if_pos c_11] at h
    refine z_iload2 dX1_behindCheck_14 (z_goto 47 dX1_behindCheck_15 (by decide) (z_ireturn dX1_behindCheck_47 rfl (Nat.le_of_ble_eq_true rfl) (Nat.le_of_ble_eq_true rfl) ?_))
    exact h
theorem X_costs {a : Nat} {x d : Int32} (hX : XP np na nl nb ng μ) (hv : XMv w na μ) (hR : RepX w σ μ) (hw : w < 2) (hx : x = nI a) (ha : a < na) (hn : na ≤ 120) (h2 : σ 2 a = -1 ∨ 0 ≤ σ 2 a) (hd : d = 0 ∨ d = 1 ∨ d = 2 ∨ d = 3) (h : Q (rI (costF σ d a)) μ) : Ct RX1 cX1_costs (4, some .int, [], false, rmm 1 0 0) [vr 1 0, vr 4 w, vi d, vi x] μ Q := by
  refine Ct.of (ls := [some (vr 1 0), some (vr 4 w), some (vi d), some (vi x)]) rfl fun Γ C ad => ?_
  have ha2 : a < 120 := by omega
  unfold costF at h
  rcases hd with rfl | rfl | rfl | rfl
  · rw [if_pos rfl] at h
    refine z_iload2 dX1_costs_0 (z_tabIn 28 dX1_costs_1 (by decide) (by decide) rfl (by decide) (z_aload1 dX1_costs_28 (z_getP fl_X1_232 dX1_costs_29 rfl rfl (hX.f4 _ hw) (z_iload3 dX1_costs_32 (z_aald dX1_costs_33 rfl (by decide) rfl ⟨hx, ha2, Nat.le_of_ble_eq_true rfl⟩ (hv a ha) (z_getIv fl_X1_320 dX1_costs_34 (kdW hw) rfl (hR.q 2 _ (by decide)) (z_iconst (v := (-1)) dX1_costs_37 (by decide) (z_icmp_ne 45 dX1_costs_38 (by decide) (fun c_38 => ?_) (fun c_38 => ?_)))))))))
    · rw [if_neg (fun q => by rcases h2 with z | z; exact c_38 z; exact absurd q (Int32.not_lt.mpr z))] at h
      refine z_iconst (v := 1) dX1_costs_45 (by decide) (z_ireturn dX1_costs_46 rfl (Nat.le_of_ble_eq_true rfl) (Nat.le_of_ble_eq_true rfl) ?_)
      exact h
    · rw [if_pos (by rw [c_38]; decide)] at h
      refine z_iconst (v := 2) dX1_costs_41 (by decide) (z_goto 46 dX1_costs_42 (by decide) (z_ireturn dX1_costs_46 rfl (Nat.le_of_ble_eq_true rfl) (Nat.le_of_ble_eq_true rfl) ?_))
      exact h
  · refine z_iload2 dX1_costs_0 (z_tabIn 47 dX1_costs_1 (by decide) (by decide) rfl (by decide) (z_iconst (v := 3) dX1_costs_47 (by decide) (z_aload0 dX1_costs_48 (z_getP fl_X1_35 dX1_costs_49 rfl rfl (hX.f1 4 (by decide)) (z_iload3 dX1_costs_52 (z_aald dX1_costs_53 rfl (by decide) rfl ⟨hx, ha2, Nat.le_of_ble_eq_true rfl⟩ (hX.as ha) (z_getP fl_X1_222 dX1_costs_54 rfl rfl (hX.ru ha) (z_getIv fl_X1_229 dX1_costs_57 rfl rfl (hR.q 20 _ (by decide)) (z_iadd dX1_costs_60 (z_ireturn dX1_costs_61 rfl (Nat.le_of_ble_eq_true rfl) (Nat.le_of_ble_eq_true rfl) ?_))))))))))
    exact h
  · refine z_iload2 dX1_costs_0 (z_tabIn 62 dX1_costs_1 (by decide) (by decide) rfl (by decide) (z_bipush (v := 6) dX1_costs_62 (by decide) (z_ireturn dX1_costs_64 rfl (Nat.le_of_ble_eq_true rfl) (Nat.le_of_ble_eq_true rfl) ?_)))
    exact h
  · refine z_iload2 dX1_costs_0 (z_tabOut 65 dX1_costs_1 (by decide) (by decide) (z_iconst (v := 1) dX1_costs_65 (by decide) (z_ireturn dX1_costs_66 rfl (Nat.le_of_ble_eq_true rfl) (Nat.le_of_ble_eq_true rfl) ?_)))
    exact h
theorem X_inState {lo hi : Int32} (hX : XP np na nl nb ng μ) (hR : RepX 0 σ μ) (hn : σ 34 2 = nI na) (hn2 : na ≤ 120) (h : Q (rI (inStF σ lo hi)) μ) : Ct RX1 cX1_inState (5, some .int, [], false, rmm 2 0 0) [vr 1 0, vi lo, vi hi] μ Q := by
  refine Ct.of (ls := [some (vr 1 0), some (vi lo), some (vi hi), none, none]) rfl fun Γ C ad => ?_
  refine z_iconst (v := 0) dX1_inState_0 (by decide) (z_istore3 dX1_inState_1 (z_iconst (v := 0) dX1_inState_2 (by decide) (z_istore4 dX1_inState_3 ?_)))
  refine loopN (P := fun k => Z RX1 cX1_inState (5, some .int, [], false, rmm 2 0 0) (Γ, C, μ, ad, Q) (0) (0) (μ) 5 [some (vr 1 0), some (vi lo), some (vi hi), some (vi (cntB (fun a => decide (lo ≤ σ 0 a ∧ σ 0 a ≤ hi)) k)), some (vi (nI k))] []) na ?_ ?_ 0 (Nat.zero_le _)
  · refine z_iload4 dX1_inState_5 (z_aload0 dX1_inState_7 (z_getIv fl_X1_122 dX1_inState_8 rfl rfl (hR.t 2 (by decide)) (z_icmp_ge 49 dX1_inState_11 (by decide) (fun _ => z_iload3 dX1_inState_49 (z_ireturn dX1_inState_50 rfl (Nat.le_of_ble_eq_true rfl) (Nat.le_of_ble_eq_true rfl) ?_)) (fun c => absurd (lpt hn) c))))
    rw [inStF, hn, tn_nI (by omega)] at h
    exact h
  · intro k hk ih
    have hk2 : k < 120 := by omega
    rw [cntB] at ih
    refine z_iload4 dX1_inState_5 (z_aload0 dX1_inState_7 (z_getIv fl_X1_122 dX1_inState_8 rfl rfl (hR.t 2 (by decide)) (z_icmp_ge 49 dX1_inState_11 (by decide) (fun c => absurd c (lpf hn hk (by omega))) (fun _ => z_iload3 dX1_inState_14 (z_aload0 dX1_inState_15 (z_getP fl_X1_42 dX1_inState_16 rfl rfl (hX.f1 5 (by decide)) (z_getP fl_X1_232 dX1_inState_19 rfl rfl (hX.f4 _ (by decide)) (z_iload4 dX1_inState_22 (z_aald dX1_inState_24 rfl (by decide) rfl ⟨rfl, hk2, Nat.le_of_ble_eq_true rfl⟩ (hX.mo hk) (z_getIv fl_X1_236 dX1_inState_25 rfl rfl (hR.q 0 _ (by decide)) (z_iload1 dX1_inState_28 (z_iload2 dX1_inState_29 (z_invS3 (md_X1_isIn _) cs_X1_114 dX1_inState_30 rfl (Nat.le_of_ble_eq_true rfl) (Rm.ofB rfl) (X_isIn (z_if_eq 40 dX1_inState_33 (by decide) (fun c_33 => ?_) (fun c_33 => ?_))))))))))))))))
    · rw [bI_0.mp c_33] at ih
      refine z_iconst (v := 0) dX1_inState_40 (by decide) (z_iadd dX1_inState_41 (z_istore3 dX1_inState_42 (z_iinc4 dX1_inState_43 (inc1 k) (z_goto 5 dX1_inState_46 (by decide) ?_))))
      exact ih
    · rw [bI_n0 c_33] at ih
      refine z_iconst (v := 1) dX1_inState_36 (by decide) (z_goto 41 dX1_inState_37 (by decide) (z_iadd dX1_inState_41 (z_istore3 dX1_inState_42 (z_iinc4 dX1_inState_43 (inc1 k) (z_goto 5 dX1_inState_46 (by decide) ?_)))))
      exact ih
theorem X_ends {lo hi : Int32} (hX : XP np na nl nb ng μ) (hR : RepX 0 σ μ) (hn : σ 7 4 = nI nb) (hn2 : nb ≤ 150) (h : Q (rI (endsF σ lo hi)) μ) : Ct RX1 cX1_ends (5, some .int, [], false, rmm 2 0 0) [vr 1 0, vi lo, vi hi] μ Q := by
  refine Ct.of (ls := [some (vr 1 0), some (vi lo), some (vi hi), none, none]) rfl fun Γ C ad => ?_
  refine z_iconst (v := 0) dX1_ends_0 (by decide) (z_istore3 dX1_ends_1 (z_iconst (v := 0) dX1_ends_2 (by decide) (z_istore4 dX1_ends_3 ?_)))
  refine loopN (P := fun k => Z RX1 cX1_ends (5, some .int, [], false, rmm 2 0 0) (Γ, C, μ, ad, Q) (0) (0) (μ) 5 [some (vr 1 0), some (vi lo), some (vi hi), some (vi (cntB (fun b => decide (lo ≤ σ 10 b ∧ σ 10 b ≤ hi)) k)), some (vi (nI k))] []) nb ?_ ?_ 0 (Nat.zero_le _)
  · refine z_iload4 dX1_ends_5 (z_aload0 dX1_ends_7 (z_getP fl_X1_42 dX1_ends_8 rfl rfl (hX.f1 5 (by decide)) (z_getIv fl_X1_167 dX1_ends_11 rfl rfl (hR.wd 4 (by decide)) (z_icmp_ge 49 dX1_ends_14 (by decide) (fun _ => z_iload3 dX1_ends_49 (z_ireturn dX1_ends_50 rfl (Nat.le_of_ble_eq_true rfl) (Nat.le_of_ble_eq_true rfl) ?_)) (fun c => absurd (lpt hn) c)))))
    rw [endsF, hn, tn_nI (by omega)] at h
    exact h
  · intro k hk ih
    have hk2 : k < 150 := by omega
    rw [cntB] at ih
    refine z_iload4 dX1_ends_5 (z_aload0 dX1_ends_7 (z_getP fl_X1_42 dX1_ends_8 rfl rfl (hX.f1 5 (by decide)) (z_getIv fl_X1_167 dX1_ends_11 rfl rfl (hR.wd 4 (by decide)) (z_icmp_ge 49 dX1_ends_14 (by decide) (fun c => absurd c (lpf hn hk (by omega))) (fun _ => z_iload3 dX1_ends_17 (z_aload0 dX1_ends_18 (z_getP fl_X1_51 dX1_ends_19 rfl rfl (hX.f1 7 (by decide)) (z_iload4 dX1_ends_22 (z_aald dX1_ends_24 rfl (by decide) rfl ⟨rfl, hk2, Nat.le_of_ble_eq_true rfl⟩ (hX.bo hk) (z_getIv fl_X1_297 dX1_ends_25 rfl rfl (hR.q 10 _ (by decide)) (z_iload1 dX1_ends_28 (z_iload2 dX1_ends_29 (z_invS3 (md_X1_isIn _) cs_X1_114 dX1_ends_30 rfl (Nat.le_of_ble_eq_true rfl) (Rm.ofB rfl) (X_isIn (z_if_eq 40 dX1_ends_33 (by decide) (fun c_33 => ?_) (fun c_33 => ?_))))))))))))))))
    · rw [bI_0.mp c_33] at ih
      refine z_iconst (v := 0) dX1_ends_40 (by decide) (z_iadd dX1_ends_41 (z_istore3 dX1_ends_42 (z_iinc4 dX1_ends_43 (inc1 k) (z_goto 5 dX1_ends_46 (by decide) ?_))))
      exact ih
    · rw [bI_n0 c_33] at ih
      refine z_iconst (v := 1) dX1_ends_36 (by decide) (z_goto 41 dX1_ends_37 (by decide) (z_iadd dX1_ends_41 (z_istore3 dX1_ends_42 (z_iinc4 dX1_ends_43 (inc1 k) (z_goto 5 dX1_ends_46 (by decide) ?_)))))
      exact ih
/-- the law of a day, as the Office gives it -/
def lwO (x : Int32) : Option (Nat × Nat) := if x < 0 then none else some (26, tn x)
theorem X_lawOf {day : Int32} (hX : XQ np nb ng μ) (hR : RepX w σ μ) (hn : σ 34 0 = nI ng) (hn2 : ng ≤ 12) (h : Q (rO (lwO (lawF σ day))) μ) : Ct RX1 cX1_lawOf (4, some (.object "PassportOffice$Law"), [], false, rmm 1 0 0) [vr 1 0, vi day] μ Q := by
  refine Ct.of (ls := [some (vr 1 0), some (vi day), none, none]) rfl fun Γ C ad => ?_
  refine z_null dX1_lawOf_0 (z_astore2 dX1_lawOf_1 (z_iconst (v := 0) dX1_lawOf_2 (by decide) (z_istore3 dX1_lawOf_3 ?_)))
  refine loopN (P := fun k => Z RX1 cX1_lawOf (4, some (.object "PassportOffice$Law"), [], false, rmm 1 0 0) (Γ, C, μ, ad, Q) (0) (0) (μ) 4 [some (vr 1 0), some (vi day), some (vo (lwO (lawS σ day k))), some (vi (nI k))] []) ng ?_ ?_ 0 (Nat.zero_le _)
  · refine z_iload3 dX1_lawOf_4 (z_aload0 dX1_lawOf_5 (z_getIv fl_X1_155 dX1_lawOf_6 rfl rfl (hR.t 0 (by decide)) (z_icmp_ge 58 dX1_lawOf_9 (by decide) (fun _ => z_aload2 dX1_lawOf_58 (z_areturn dX1_lawOf_59 rfl (Or.inl ⟨_, rfl⟩) (Nat.le_of_ble_eq_true rfl) (Nat.le_of_ble_eq_true rfl) ?_)) (fun c => absurd (lpt hn) c))))
    rw [lawF, hn, tn_nI (by omega)] at h
    exact h
  · intro k hk ih
    have hk2 : k < 12 := by omega
    rw [lawS] at ih
    have keep : ¬ (σ 38 k ≤ day ∧ (lawS σ day k < 0 ∨ σ 38 (tn (lawS σ day k)) ≤ σ 38 k)) → Z RX1 cX1_lawOf (4, some (.object "PassportOffice$Law"), [], false, rmm 1 0 0) (Γ, C, μ, ad, Q) (0) (0) (μ) 52 [some (vr 1 0), some (vi day), some (vo (lwO (lawS σ day k))), some (vi (nI k))] [] := by
      intro q
      rw [if_neg q] at ih
      refine z_iinc3 dX1_lawOf_52 (inc1 k) (z_goto 4 dX1_lawOf_55 (by decide) ?_)
      exact ih
    have take : (σ 38 k ≤ day ∧ (lawS σ day k < 0 ∨ σ 38 (tn (lawS σ day k)) ≤ σ 38 k)) → Z RX1 cX1_lawOf (4, some (.object "PassportOffice$Law"), [], false, rmm 1 0 0) (Γ, C, μ, ad, Q) (0) (0) (μ) 45 [some (vr 1 0), some (vi day), some (vo (lwO (lawS σ day k))), some (vi (nI k))] [] := by
      intro q
      rw [if_pos q, lwO, if_neg (nI_pos (by omega)), tn_nI (by omega)] at ih
      refine z_aload0 dX1_lawOf_45 (z_getP fl_X1_18 dX1_lawOf_46 rfl rfl (hX.f1 1 (by decide)) (z_iload3 dX1_lawOf_49 (z_aald dX1_lawOf_50 rfl (by decide) rfl ⟨rfl, hk2, Nat.le_of_ble_eq_true rfl⟩ (hX.la hk) (z_astore2 dX1_lawOf_51 (z_iinc3 dX1_lawOf_52 (inc1 k) (z_goto 4 dX1_lawOf_55 (by decide) ?_))))))
      exact ih
    refine z_iload3 dX1_lawOf_4 (z_aload0 dX1_lawOf_5 (z_getIv fl_X1_155 dX1_lawOf_6 rfl rfl (hR.t 0 (by decide)) (z_icmp_ge 58 dX1_lawOf_9 (by decide) (fun c => absurd c (lpf hn hk (by omega))) (fun _ => z_aload0 dX1_lawOf_12 (z_getP fl_X1_18 dX1_lawOf_13 rfl rfl (hX.f1 1 (by decide)) (z_iload3 dX1_lawOf_16 (z_aald dX1_lawOf_17 rfl (by decide) rfl ⟨rfl, hk2, Nat.le_of_ble_eq_true rfl⟩ (hX.la hk) (z_getIv fl_X1_164 dX1_lawOf_18 rfl rfl (hR.q 38 _ (by decide)) (z_iload1 dX1_lawOf_21 (z_icmp_gt 52 dX1_lawOf_22 (by decide) (fun c_22 => ?_) (fun c_22 => ?_)))))))))))
    · exact keep fun q => absurd q.1 (Int32.not_le.mpr c_22)
    · by_cases hL : lawS σ day k < 0
      · have e : lwO (lawS σ day k) = none := by rw [lwO, if_pos hL]
        have t := take ⟨Int32.not_lt.mp c_22, Or.inl hL⟩
        rw [e] at t ⊢
        refine z_aload2 dX1_lawOf_25 (z_ifnull 45 dX1_lawOf_26 (by decide) (fun _ => ?_) (fun _ c => by cases c))
        exact t
      · have e : lwO (lawS σ day k) = some (26, tn (lawS σ day k)) := by rw [lwO, if_neg hL]
        have t : σ 38 (tn (lawS σ day k)) ≤ σ 38 k → _ := fun q => take ⟨Int32.not_lt.mp c_22, Or.inr q⟩
        rw [e] at keep t ⊢
        refine z_aload2 dX1_lawOf_25 (z_ifnull 45 dX1_lawOf_26 (by decide) (fun c => by cases c) (fun _ _ => z_aload0 dX1_lawOf_29 (z_getP fl_X1_18 dX1_lawOf_30 rfl rfl (hX.f1 1 (by decide)) (z_iload3 dX1_lawOf_33 (z_aald dX1_lawOf_34 rfl (by decide) rfl ⟨rfl, hk2, Nat.le_of_ble_eq_true rfl⟩ (hX.la hk) (z_getIv fl_X1_164 dX1_lawOf_35 rfl rfl (hR.q 38 _ (by decide)) (z_aload2 dX1_lawOf_38 (z_getIv fl_X1_164 dX1_lawOf_39 rfl rfl (hR.q 38 _ (by decide)) (z_icmp_lt 52 dX1_lawOf_42 (by decide) (fun c_42 => ?_) (fun c_42 => ?_))))))))))
        · exact keep fun q => q.2.elim hL (fun q => absurd q (Int32.not_le.mpr c_42))
        · exact t (Int32.not_lt.mp c_42)
end X3
