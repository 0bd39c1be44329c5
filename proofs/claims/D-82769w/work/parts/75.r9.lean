/-! the Reader: reading a fact -/
section R9
variable {μ μ' μ'' : Mem} {Q : Res → Mem → Prop} {T : Nat → Int32} {e a b : Nat}
theorem kp_wI {p i k : Nat} {x : Int32} (h : KP μ μ') (hi : gC μ p ≤ i) : KP μ (sI μ' p i k x) := fun q hq => by
  obtain ⟨h1, h2⟩ := h q hq
  refine ⟨h1, fun j hj => ?_⟩
  obtain ⟨g1, g2⟩ := h2 j hj
  refine ⟨g1, fun k' => ⟨?_, (g2 k').2⟩⟩
  rw [gI_sI, if_neg]
  · exact (g2 k').1
  · rintro ⟨rfl, rfl, -⟩
    omega
theorem kp_wP {p i k : Nat} {x : Option (Nat × Nat)} (h : KP μ μ') (hi : gC μ p ≤ i) : KP μ (sP μ' p i k x) := fun q hq => by
  obtain ⟨h1, h2⟩ := h q hq
  refine ⟨h1, fun j hj => ?_⟩
  obtain ⟨g1, g2⟩ := h2 j hj
  refine ⟨g1, fun k' => ⟨(g2 k').1, ?_⟩⟩
  rw [gP_sP, if_neg]
  · exact (g2 k').2
  · rintro ⟨rfl, rfl, -⟩
    omega
/-- a fact's cell, over a memory in which it was made and what was read behind it -/
def ftM (μ : Mem) (j f : Nat) (how than : Int32) : Mem := sI (sI (sI μ 29 j 0 (nI f)) 29 j 2 how) 29 j 1 than
theorem ft_cd {j f : Nat} {how than : Int32} (hj : j < gC μ 29) (hf : f < 9) : CdX (ftM μ j f how than) 1 (29, j) (fun φ => fcX φ f how than) := by
  unfold CdX
  refine Or.inl ⟨rfl, hj, f, hf, ?_, fun φ => ?_⟩
  · unfold ftM; simp [gI_sI]
  · have e2 : gI (ftM μ j f how than) 29 j 2 = how := by unfold ftM; simp [gI_sI]
    have e1 : gI (ftM μ j f how than) 29 j 1 = than := by unfold ftM; simp [gI_sI]
    show _ = fcX φ f (gI (ftM μ j f how than) 29 j 2) (gI (ftM μ j f how than) 29 j 1)
    rw [e1, e2]
theorem ft_fk {j f : Nat} {how than : Int32} (h : FK μ μ') (hj : gC μ 29 ≤ j) : FK μ (ftM μ' j f how than) := by
  have s : ∀ i k, SKx 29 i k := fun i k => by unfold SKx; omega
  exact ⟨((h.1.wI (s _ _)).wI (s _ _)).wI (s _ _), kp_wI (kp_wI (kp_wI h.2 hj) hj) hj⟩
theorem X_fact (hb : skB T e b = b) (hr : RX T e b μ)
    (h1 : ∀ p st j F μ', fctP T e b = .inr (p, st) → RX T e p μ' → FK μ μ' → gI μ' 2 0 10 = gI μ 2 0 10 → CdX μ' 1 (29, j) F → (∀ φ stk, evL φ st stk = some (F φ :: stk)) → Q (rO (some (29, j))) μ')
    (h2 : ∀ x μ', fctP T e b = .inl x → FK μ μ' → gI μ' 3 0 6 = nI x → Q (rX 3 0) μ') : Ct RX2 cX2_fact (3, some (.object "PassportOffice$Cond"), [], false, rmm 7 1 3) [vr 2 0] μ Q := by
  refine Ct.of (ls := [some (vr 2 0), none, none]) rfl fun Γ C ad => ?_
  have hX := hr.1
  have hbe := hr.2.2.2.1
  have len9 : wFact.length = 9 := rfl
  unfold fctP at h1 h2
  have w2 : wdE T e b ≤ e := skE_le hbe
  refine z_aload0 dX2_fact_0 (z_aload0 dX2_fact_1 (z_getP fl_X2_70 dX2_fact_2 rfl rfl (hX.f2 3 (by decide)) (z_invV1 (md_X2_one _) cv_X2_130 rfl dX2_fact_5 rfl (Nat.le_of_ble_eq_true rfl) (Rm.ofB rfl) (X_one8 (ws := wFact) strB_8 rfl hr (fun f μ1 hf ef hr1 hD1 => ?_) (fun μ1 ef hD1 hp => ?_)))))
  · rw [hb] at ef hr1
    rw [ef, if_neg (by omega)] at h1 h2
    refine z_istore1 dX2_fact_8 (z_aload0 dX2_fact_9 (z_invV0 (md_X2_sign _) cv_X2_99 rfl dX2_fact_10 rfl (Nat.le_of_ble_eq_true rfl) (Rm.ofB rfl) (X_sign hr1 (fun μ2 hr2 hD2 => ?_))))
    generalize hc : skB T e (wdE T e b) = c at *
    have hce := hr2.2.2.2.1
    have hX2 := hr2.1
    have h92 := hr2.2.2.1
    have he := hr2.2.2.2.2.1
    have F2 : FK μ μ2 := (FK.s29 hD1).tr (FK.s29 hD2)
    have d10 : gI μ2 2 0 10 = gI μ 2 0 10 := by rw [hD2.2 _ _ _ (by unfold S29; omega), hD1.2 _ _ _ (by unfold S29; omega)]
    have num : ∀ (op : Nat) (how : Int32), (op = 1 ∧ how = 60 ∨ op = 2 ∧ how = 62) → sgF T e c = how → c < e →
        (∀ p st j F μ', (match numP T e (c + 1) with | .inl x => (.inl x : Pr) | .inr q => .inr (q.1, [(nI f, nI op, q.2)])) = .inr (p, st) → RX T e p μ' → FK μ μ' → gI μ' 2 0 10 = gI μ 2 0 10 → CdX μ' 1 (29, j) F → (∀ φ stk, evL φ st stk = some (F φ :: stk)) → Q (rO (some (29, j))) μ') →
        (∀ x μ', (match numP T e (c + 1) with | .inl x => (.inl x : Pr) | .inr q => .inr (q.1, [(nI f, nI op, q.2)])) = .inl x → FK μ μ' → gI μ' 3 0 6 = nI x → Q (rX 3 0) μ') →
        Z RX2 cX2_fact (3, some (.object "PassportOffice$Cond"), [], false, rmm 7 1 3) (Γ, C, μ, ad, Q) 0 0 μ2 38 [some (vr 2 0), some (vi (nI f)), some (vi (sgF T e c))] [] := by
      intro op how hop es hlt g1 g2
      have hr3 := hr2.at (b := c + 1) (by omega)
      have k29 : gC (sI μ2 2 0 9 (nI (c + 1))) 29 = gC μ2 29 := rfl
      have F4 : FK μ2 (nw (sI μ2 2 0 9 (nI (c + 1))) 29 0) := by
        refine ⟨(FX.rf.wI (by unfold SKx; omega)).wN (by unfold TKx; omega) (fun k => by unfold SKx; omega) (fun _ => rfl), ?_⟩
        exact (KP.sI (Or.inl (by omega))).tr (KP.nw (fun _ => rfl))
      have hr4 : RX T e (c + 1) (nw (sI μ2 2 0 9 (nI (c + 1))) 29 0) := hr2.fk F4 (by rw [gI_nw, if_neg (by simp), gI_sI, if_pos ⟨rfl, rfl, rfl⟩]) (by omega)
      have ehow : (how.toUInt32 % 65536).toInt32 = how := by rcases hop with ⟨-, rfl⟩ | ⟨-, rfl⟩ <;> decide
      have nar : narrow .char (.int how) = .int how ∧ fits .char (.int how) = true := by rcases hop with ⟨-, rfl⟩ | ⟨-, rfl⟩ <;> exact ⟨rfl, rfl⟩
      rw [es]
      refine z_aload0 dX2_fact_38 (z_dupa dX2_fact_39 (z_getIv fl_X2_93 dX2_fact_40 rfl rfl (h92) (z_iconst (v := 1) dX2_fact_43 (by decide) (z_iadd dX2_fact_44 (z_putI fl_X2_93 dX2_fact_45 rfl rfl ⟨rfl, rfl⟩ ?_)))))
      rw [nI_1]
      refine z_new 29 nw_X2_171 dX2_fact_48 rfl (by decide) rfl (Nat.le_of_ble_eq_true rfl) (Nat.le_of_ble_eq_true rfl) (z_dupa dX2_fact_51 (z_iload1 dX2_fact_52 (z_iload2 dX2_fact_53 (z_i2c dX2_fact_54 (z_aload0 dX2_fact_55 (z_invV0 (md_X2_number _) cv_X2_134 rfl dX2_fact_56 rfl (Nat.le_of_ble_eq_true rfl) (Rm.ofB rfl) (X_number hr4 (fun q v μ5 en hr5 hD5 => ?_) (fun x μ5 en hD5 hp => ?_))))))))
      · rw [en] at g1
        rw [ehow]
        refine z_invI3 (md_X8_init _) ci_X2_173 dX2_fact_59 rfl (Nat.le_of_ble_eq_true rfl) (Rm.ofB rfl) (X_ftInit nar (z_areturn dX2_fact_62 rfl (Or.inl ⟨_, rfl⟩) (Nat.le_of_ble_eq_true rfl) (Nat.le_of_ble_eq_true rfl) ?_))
        have F5 : FK μ μ5 := F2.tr (F4.tr (FK.s29 hD5))
        have hj : gC μ2 29 < gC μ5 29 := by
          rw [hD5.C, gC_nw, if_pos rfl]
          exact Nat.lt_succ_self _
        have F6 : FK μ2 (ftM μ5 (gC μ2 29) f how v) := ft_fk (F4.tr (FK.s29 hD5)) (Nat.le_refl _)
        refine g1 q _ (gC μ2 29) _ (ftM μ5 (gC μ2 29) f how v) rfl ?_ (F2.tr F6) ?_ (ft_cd hj hf) (ev_fact hf (by rcases hop with ⟨r1, r2⟩ | ⟨r1, r2⟩; exact Or.inr (Or.inl ⟨r1, r2, rfl⟩); exact Or.inr (Or.inr ⟨r1, r2, rfl⟩)))
        · refine hr2.fk F6 ?_ hr5.2.2.2.1
          unfold ftM
          simp only [gI_sI]
          rw [if_neg (by simp), if_neg (by simp), if_neg (by simp)]
          exact hr5.2.2.1
        · rw [← d10]
          unfold ftM
          simp only [gI_sI]
          rw [if_neg (by simp), if_neg (by simp), if_neg (by simp), hD5.2 _ _ _ (by unfold S29; omega), gI_nw, if_neg (by simp), gI_sI, if_neg (by simp)]
      · rw [en] at g2
        exact ⟨rfl, g2 x μ5 rfl (F2.tr (F4.tr (FK.s3 hD5))) hp⟩
    have hTc : c < e → -128 ≤ T c ∧ T c ≤ 127 := fun q => (hr2.2.2.2.2.2 c (by omega)).2
    by_cases q60 : c < e ∧ T c = 60
    · rw [if_pos q60] at h1 h2
      have es : sgF T e c = 60 := (sg_eq (x := 60) (hTc q60.1) (by decide)).mpr q60
      have t := num 1 60 (Or.inl ⟨rfl, rfl⟩) es q60.1 h1 h2
      rw [es] at t ⊢
      refine z_istore2 dX2_fact_13 (z_iload2 dX2_fact_14 (z_bipush (v := 60) dX2_fact_15 (by decide) (z_icmp_eq 38 dX2_fact_17 (by decide) (fun _ => ?_) (fun c => absurd (rfl) c))))
      exact t
    · rw [if_neg q60] at h1 h2
      by_cases q62 : c < e ∧ T c = 62
      · rw [if_pos q62] at h1 h2
        have es : sgF T e c = 62 := (sg_eq (x := 62) (hTc q62.1) (by decide)).mpr q62
        have t := num 2 62 (Or.inr ⟨rfl, rfl⟩) es q62.1 h1 h2
        rw [es] at t ⊢
        refine z_istore2 dX2_fact_13 (z_iload2 dX2_fact_14 (z_bipush (v := 60) dX2_fact_15 (by decide) (z_icmp_eq 38 dX2_fact_17 (by decide) (fun c => absurd c ((by decide))) (fun _ => z_iload2 dX2_fact_20 (z_bipush (v := 62) dX2_fact_21 (by decide) (z_icmp_eq 38 dX2_fact_23 (by decide) (fun _ => ?_) (fun c => absurd (rfl) c)))))))
        exact t
      · rw [if_neg q62] at h1 h2
        have n60 : ¬ sgF T e c = 60 := fun z => by
          by_cases q : c < e
          · exact q60 ((sg_eq (x := 60) (hTc q) (by decide)).mp z)
          · rw [sgF, if_neg q] at z; exact absurd z (by decide)
        have n62 : ¬ sgF T e c = 62 := fun z => by
          by_cases q : c < e
          · exact q62 ((sg_eq (x := 62) (hTc q) (by decide)).mp z)
          · rw [sgF, if_neg q] at z; exact absurd z (by decide)
        refine z_istore2 dX2_fact_13 (z_iload2 dX2_fact_14 (z_bipush (v := 60) dX2_fact_15 (by decide) (z_icmp_eq 38 dX2_fact_17 (by decide) (fun c => absurd c (n60)) (fun _ => z_iload2 dX2_fact_20 (z_bipush (v := 62) dX2_fact_21 (by decide) (z_icmp_eq 38 dX2_fact_23 (by decide) (fun c => absurd c (n62)) (fun _ => z_new 29 nw_X2_171 dX2_fact_26 rfl (by decide) rfl (Nat.le_of_ble_eq_true rfl) (Nat.le_of_ble_eq_true rfl) (z_dupa dX2_fact_29 (z_iload1 dX2_fact_30 (z_bipush (v := 61) dX2_fact_31 (by decide) (z_iconst (v := 0) dX2_fact_33 (by decide) (z_invI3 (md_X8_init _) ci_X2_173 dX2_fact_34 rfl (Nat.le_of_ble_eq_true rfl) (Rm.ofB rfl) (X_ftInit ⟨rfl, rfl⟩ (z_areturn dX2_fact_37 rfl (Or.inl ⟨_, rfl⟩) (Nat.le_of_ble_eq_true rfl) (Nat.le_of_ble_eq_true rfl) ?_))))))))))))))
        have F6 : FK μ2 (ftM (nw μ2 29 0) (gC μ2 29) f 61 0) := ft_fk ⟨FX.rf.wN (by unfold TKx; omega) (fun k => by unfold SKx; omega) (fun _ => rfl), KP.nw (fun _ => rfl)⟩ (Nat.le_refl _)
        refine h1 c _ (gC μ2 29) _ (ftM (nw μ2 29 0) (gC μ2 29) f 61 0) rfl (hr2.fk F6 ?_ hce) (F2.tr F6) ?_ (ft_cd (by rw [gC_nw, if_pos rfl]; exact Nat.lt_succ_self _) hf) (ev_fact (op := 0) hf (Or.inl ⟨rfl, rfl⟩))
        · unfold ftM
          simp only [gI_sI]
          rw [if_neg (by simp), if_neg (by simp), if_neg (by simp), gI_nw, if_neg (by simp)]
          exact h92
        · rw [← d10]
          unfold ftM
          simp only [gI_sI]
          rw [if_neg (by simp), if_neg (by simp), if_neg (by simp), gI_nw, if_neg (by simp)]
  · rw [hb] at ef hp
    rw [if_pos ef] at h2
    exact ⟨rfl, h2 b μ1 rfl (FK.s3 hD1) hp⟩
end R9
