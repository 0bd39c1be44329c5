/-! the Office: days -/
section CLEAN
variable {own : String} {cc : ByteArray} {mm : MM} {E : Ex} {k n : Nat} {μ : Mem} {pc : Nat} {ls : List (Option AV)} {st : List AV}
/-- cells that are not made yet are empty -/
theorem z_clean (kk : (∀ p i j, gC μ p ≤ i → gI μ p i j = 0 ∧ gP μ p i j = none) → Z own cc mm E k n μ pc ls st) : Z own cc mm E k n μ pc ls st :=
  fun ad H locs la h => kk h.rel.2.2.2.2.2 ad H locs la h
end CLEAN
def SameD (σ σ' : Sg) : Prop := ∀ c i, 12 ≤ c → ¬ (c = 34 ∧ i = 13) → σ' c i = σ c i
theorem SameD.rf {σ : Sg} : SameD σ σ := fun _ _ _ _ => rfl
theorem SameD.tr {a b c : Sg} (h1 : SameD a b) (h2 : SameD b c) : SameD a c := fun x i h g => (h2 x i h g).trans (h1 x i h g)
theorem SameTh.d {σ σ' : Sg} (h : SameTh σ σ') : SameD σ σ' := fun c i hc _ => h c i hc
theorem SameD.u13 {σ σ' : Sg} {v : Int32} (h : SameD σ σ') : SameD σ (up2 σ' 34 13 v) := fun c i hc hn => by rw [up2_eq, if_neg hn]; exact h c i hc hn
theorem PD.td {σ σ' : Sg} {n np nl : Nat} (h : PD σ n np nl) (ht : SameD σ σ') : PD σ' n np nl := by
  obtain ⟨⟨h1, h2⟩, ⟨h3, h4⟩, ⟨h5, h6⟩, h7, h8⟩ := h
  refine ⟨⟨(ht 34 2 (by omega) (by omega)).trans h1, h2⟩, ⟨(ht 34 1 (by omega) (by omega)).trans h3, h4⟩, ⟨(ht 34 3 (by omega) (by omega)).trans h5, h6⟩, fun a ha => ?_, fun a ha => ?_⟩
  · rw [ht 12 a (by omega) (by omega)]; exact h7 a ha
  · rw [ht 16 a (by omega) (by omega)]; exact h8 a ha
theorem SB.td {σ σ' : Sg} {n : Nat} (h : SB σ n) (ht : SameD σ σ') : SB σ' n := fun a ha => by
  rw [ht 15 a (by omega) (by omega), ht 22 a (by omega) (by omega)]
  exact h a ha
theorem LB.td {σ σ' : Sg} (h : LB σ) (ht : SameD σ σ') : LB σ' := fun k hk => by
  rw [ht 34 3 (by omega) (by omega)] at hk
  rw [ht 30 k (by omega) (by omega), ht 32 k (by omega) (by omega)]
  exact h k hk
theorem lt_2000 {x : Int32} (h : x < 1000) : x < 2000 := Int32.lt_of_lt_of_le h (by decide)
theorem days_dy {σ : Sg} (h : DY σ) : ∀ k, DY (daysL σ k) ∧ SameD σ (daysL σ k)
  | 0 => ⟨h, SameD.rf⟩
  | k + 1 => by
    obtain ⟨h1, h2⟩ := days_dy h k
    rw [daysL]
    split
    · rename_i q
      refine ⟨(dy_day true h1 (lt_2000 q) _).up ⟨Or.inl (by decide), by omega⟩, (h2.tr (th_day true _ _).d).u13⟩
    · exact ⟨h1, h2⟩
section O8
variable {μ μ' : Mem} {σ σ' : Sg} {Λ : Lws} {Q : Res → Mem → Prop}
theorem TX.day (h : TX σ Λ μ) {np na nl nb ng : Nat} (hR : RepX 0 σ' μ') (hW : WX 0 np na nl nb ng σ' μ') (hF : FX (SZ 0) (TY 0) μ μ') (hs : SameD σ σ') (e1 : np = tn (σ 34 1)) (e2 : na = tn (σ 34 2)) (e3 : nl = tn (σ 34 3)) (e4 : ng = tn (σ 34 0)) : TX σ' Λ μ' := by
  obtain ⟨nb', hX, hb, -, hb2⟩ := hW
  have kp : KP μ μ' := KP.fx hF (fun p i k hp => by unfold SZ SY; omega) (fun p hp => by unfold TY; omega)
  refine ⟨?_, hR, h.2.2.1.kp kp (hs 34 0 (by omega) (by omega)) (fun l => hs 39 l (by omega) (by omega)) (fun l _ => hF.P l 2 (by unfold TY; omega)), h.2.2.2.kp kp (hs 34 1 (by omega) (by omega)) (fun l => hs 36 l (by omega) (by omega)) (fun l => hs 37 l (by omega) (by omega)) (fun l _ => hF.P l 3 (by unfold TY; omega))⟩
  show XP (tn (σ' 34 1)) (tn (σ' 34 2)) (tn (σ' 34 3)) (tn (σ' 7 4)) (tn (σ' 34 0)) _
  rw [hs 34 0 (by omega) (by omega), hs 34 1 (by omega) (by omega), hs 34 2 (by omega) (by omega), hs 34 3 (by omega) (by omega), hb rfl, tn_nI (by omega), ← e1, ← e2, ← e3, ← e4]
  exact hX
theorem CT.td (h : CT σ) (hs : SameD σ σ') (hb : ∃ b, σ' 7 4 = nI b ∧ b ≤ 150) : CT σ' := by
  obtain ⟨b, hb1, hb2⟩ := hb
  unfold CT
  rw [hs 34 0 (by omega) (by omega), hs 34 1 (by omega) (by omega), hs 34 2 (by omega) (by omega), hs 34 3 (by omega) (by omega), hs 34 15 (by omega) (by omega), hb1, tn_nI (by omega)]
  exact ⟨h.1, h.2.1, h.2.2.1, h.2.2.2.1, ⟨rfl, hb2⟩, h.2.2.2.2.2⟩
theorem O_days {x : Int32} (hI : TX σ Λ μ) (hC : CT σ) (hP : PD σ (tn (σ 34 2)) (tn (σ 34 1)) (tn (σ 34 3))) (hD : DY σ) (hB : SB σ (tn (σ 34 2))) (hL : LB σ) (hr : σ 34 9 = 0 ∨ σ 34 9 = 1 ∨ σ 34 9 = 2) (h : ∀ r μ', TX (pDays σ x).1 Λ μ' → Fx μ μ' → XR [38] (pDays σ x).2.1 (rI (pDays σ x).2.2) r → Q r μ') : Ct RX1 cX1_days (3, some .int, [], false, rmm 8 9001 36006) [vr 1 0, vi x] μ Q := by
  refine Ct.of (ls := [some (vr 1 0), some (vi x), none]) rfl fun Γ C ad => ?_
  have hX := hI.1
  unfold pDays at h
  by_cases h1 : 0 ≤ x ∧ x ≤ 60
  · rw [if_neg (nn h1)] at h
    obtain ⟨N, hN, eN⟩ := in_nI (n := 60) h1 rfl
    rw [eN, tn_nI (by omega)] at h
    have fin : ∀ k, k ≤ N → daysL σ k = daysL σ N → ∀ μ', TX (daysL σ k) Λ μ' → Fx μ μ' → Z RX1 cX1_days (3, some .int, [], false, rmm 8 9001 36006) (Γ, C, μ, ad, Q) (1 + 150 * k) (6 + 600 * k) (μ') 64 [some (vr 1 0), some (vi x), some (vi (nI k))] [] := by
      intro k hk e μ' hT' hF
      refine z_widen (show 1 + 150 * k ≤ 9001 by omega) (show 6 + 600 * k ≤ 36006 by omega) ?_
      have hR' := hT'.2.1
      have hX' := hT'.1
      refine z_aload0 dX1_days_64 (z_getP fl_X1_42 dX1_days_65 rfl rfl (hX'.f1 5 (by decide)) (z_getIv fl_X1_140 dX1_days_68 rfl rfl (hR'.wd 0 (by decide)) (z_ireturn dX1_days_71 rfl (Nat.le_of_ble_eq_true rfl) (Nat.le_of_ble_eq_true rfl) ?_)))
      rw [← e] at h
      exact h _ μ' hT' hF XR.ok
    have lp : ∀ k, k ≤ N → ∀ μ', TX (daysL σ k) Λ μ' → Fx μ μ' → Z RX1 cX1_days (3, some .int, [], false, rmm 8 9001 36006) (Γ, C, μ, ad, Q) (1 + 150 * k) (6 + 600 * k) (μ') 12 [some (vr 1 0), some (vi x), some (vi (nI k))] [] := by
      refine loopN (P := fun k => ∀ μ', TX (daysL σ k) Λ μ' → Fx μ μ' → Z RX1 cX1_days (3, some .int, [], false, rmm 8 9001 36006) (Γ, C, μ, ad, Q) (1 + 150 * k) (6 + 600 * k) (μ') 12 [some (vr 1 0), some (vi x), some (vi (nI k))] []) N ?_ ?_
      · intro μ' hT' hF
        refine z_iload2 dX1_days_12 (z_iload1 dX1_days_13 (z_icmp_ge 64 dX1_days_14 (by decide) (fun _ => ?_) (fun c => absurd (lpt eN) c)))
        exact fin N (Nat.le_refl _) rfl μ' hT' hF
      · intro k hk ih μ' hT' hF
        have hR' := hT'.2.1
        have hX' := hT'.1
        obtain ⟨hDk, hSk⟩ := days_dy hD k
        have hCk : CT (daysL σ k) := hC.td hSk hDk.2.2.2.2
        by_cases h2 : daysL σ k 7 0 < 1000
        · rw [daysL, if_pos h2] at ih
          have e2 : tn (daysL σ k 34 2) = tn (σ 34 2) := by rw [hSk 34 2 (by omega) (by omega)]
          have e1 : tn (daysL σ k 34 1) = tn (σ 34 1) := by rw [hSk 34 1 (by omega) (by omega)]
          have e3 : tn (daysL σ k 34 3) = tn (σ 34 3) := by rw [hSk 34 3 (by omega) (by omega)]
          have hP' : PD (daysL σ k) (tn (daysL σ k 34 2)) (tn (daysL σ k 34 1)) (tn (daysL σ k 34 3)) := by rw [e1, e2, e3]; exact hP.td hSk
          have hB' : SB (daysL σ k) (tn (daysL σ k 34 2)) := by rw [e2]; exact hB.td hSk
          have hr' : daysL σ k 34 9 = 0 ∨ daysL σ k 34 9 = 1 ∨ daysL σ k 34 9 = 2 := by rw [hSk 34 9 (by omega) (by omega)]; exact hr
          have hW : WX 0 (tn (daysL σ k 34 1)) (tn (daysL σ k 34 2)) (tn (daysL σ k 34 3)) (tn (daysL σ k 7 4)) (tn (daysL σ k 34 0)) (daysL σ k) μ' := ⟨_, hX', fun _ => hCk.2.2.2.2.1.1, fun q => absurd rfl q, hCk.nb⟩
          refine z_iload2 dX1_days_12 (z_iload1 dX1_days_13 (z_icmp_ge 64 dX1_days_14 (by decide) (fun c => absurd c (lpf eN hk (by omega))) (fun _ => z_aload0 dX1_days_17 (z_getP fl_X1_42 dX1_days_18 rfl rfl (hX'.f1 5 (by decide)) (z_getIv fl_X1_140 dX1_days_21 rfl rfl (hR'.wd 0 (by decide)) (z_sipush (v := 1000) dX1_days_24 (by decide) (z_icmp_ge 64 dX1_days_27 (by decide) (fun c => absurd c (Int32.not_le.mpr h2)) (fun _ => z_aload0 dX1_days_30 (z_aload0 dX1_days_31 (z_getP fl_X1_42 dX1_days_32 rfl rfl (hX'.f1 5 (by decide)) (z_aload0 dX1_days_35 (z_getIv fl_X1_350 dX1_days_36 rfl rfl (hR'.t 9 (by decide)) (z_invV2 (md_X1_day _) cv_X1_407 rfl dX1_days_39 rfl (Nat.le_of_ble_eq_true rfl) (Rm.gn (by decide) (leB rfl) (show 1 + 150 * k + 150 ≤ 9001 by omega) (show 6 + 600 * k + 600 ≤ 36006 by omega)) (X_day (m := true) hW hX'.mv hR' (by decide) rfl hP' hDk (lt_2000 h2) hB' (hL.td hSk) hr' (fun μ2 hR2 hW2 hv2 hF2 => ?_)))))))))))))))
          have g2 : gI μ2 4 0 3 = callF (dawnF true (daysL σ k)) := (hR2.wd 2 (by decide)).trans (day_72 _ _ _)
          have g13 : gI μ2 1 0 27 = daysL σ k 34 13 := (hR2.t 13 (by decide)).trans (th_day true _ _ 34 13 (by omega))
          have hT2 : TX (dayF true (daysL σ k) (daysL σ k 34 9)) Λ μ2 := hT'.day hR2 hW2 hF2 (th_day true _ _).d rfl rfl rfl rfl
          have hX2 := hT2.1
          refine z_aload0 dX1_days_42 (z_dupa dX1_days_43 (z_getIv fl_X1_410 dX1_days_44 rfl rfl (g13) (z_aload0 dX1_days_47 (z_getP fl_X1_42 dX1_days_48 rfl rfl (hX2.f1 5 (by decide)) (z_getIv fl_X1_384 dX1_days_51 rfl rfl (g2) (z_iadd dX1_days_54 (z_putI fl_X1_410 dX1_days_55 rfl rfl ⟨rfl, rfl⟩ (z_iinc2 dX1_days_58 (inc1 k) (z_goto 12 dX1_days_61 (by decide) ?_)))))))))
          have := ih _ (hT2.st 34 13 (daysL σ k 34 13 + callF (dawnF true (daysL σ k))) (by unfold nct; omega)) ((hF.tr (Fx.fx hF2 (fun p i k hp => by unfold SZ SY; omega) (fun p hp => by unfold TY; omega))).sI)
          rw [show 1 + 150 * (k + 1) = 1 + 150 * k + 150 by omega, show 6 + 600 * (k + 1) = 6 + 600 * k + 600 by omega] at this
          exact this
        · refine z_iload2 dX1_days_12 (z_iload1 dX1_days_13 (z_icmp_ge 64 dX1_days_14 (by decide) (fun c => absurd c (lpf eN hk (by omega))) (fun _ => z_aload0 dX1_days_17 (z_getP fl_X1_42 dX1_days_18 rfl rfl (hX'.f1 5 (by decide)) (z_getIv fl_X1_140 dX1_days_21 rfl rfl (hR'.wd 0 (by decide)) (z_sipush (v := 1000) dX1_days_24 (by decide) (z_icmp_ge 64 dX1_days_27 (by decide) (fun _ => ?_) (fun c => absurd (Int32.not_lt.mp h2) c))))))))
          refine fin k (by omega) ?_ μ' hT' hF
          have := days_stop h2 (N - k)
          rw [show k + (N - k) = N by omega] at this
          exact this.symm
    refine z_iload1 dX1_days_0 (z_iconst (v := 0) dX1_days_1 (by decide) (z_bipush (v := 60) dX1_days_2 (by decide) (z_invS3 (md_X1_isIn _) cs_X1_114 dX1_days_4 rfl (Nat.le_of_ble_eq_true rfl) (Rm.ofB rfl) (X_inT h1 (z_invS1 (md_X1_must _) cs_X1_143 dX1_days_7 rfl (Nat.le_of_ble_eq_true rfl) (Rm.ofB rfl) (X_mustT (z_iconst (v := 0) dX1_days_10 (by decide) (z_istore2 dX1_days_11 ?_))))))))
    exact lp 0 (Nat.zero_le _) μ hI Fx.rf
  · rw [if_pos h1] at h
    refine z_iload1 dX1_days_0 (z_iconst (v := 0) dX1_days_1 (by decide) (z_bipush (v := 60) dX1_days_2 (by decide) (z_invS3 (md_X1_isIn _) cs_X1_114 dX1_days_4 rfl (Nat.le_of_ble_eq_true rfl) (Rm.ofB rfl) (X_inF h1 (z_invS1 (md_X1_must _) cs_X1_143 dX1_days_7 rfl (Nat.le_of_ble_eq_true rfl) (Rm.ofB rfl) (X_mustF ?_))))))
    exact fun μ' i q => ⟨rfl, h _ _ (hI.exc q) (Fx.exc q) XR.e1⟩
end O8
