/-! the Office: what is got, what is printed -/
/-- what a day may change -/
def SY (w : Nat) : Nat → Nat → Nat → Prop := fun p i k => p = 34 + w ∨ (p = 4 ∧ i = w) ∨ (w = 0 ∧ (p = 37 ∨ (p = 1 ∧ k = 26)))
def TY (w : Nat) : Nat → Prop := fun p => w = 0 ∧ (p = 37 ∨ p = 17)
/-- bounds of what does not move, and of today -/
def SB (σ : Sg) (n : Nat) : Prop := ∀ a, a < n → (0 ≤ σ 15 a ∧ σ 15 a ≤ 1000) ∧ (-1 ≤ σ 22 a ∧ σ 22 a ≤ 9999)
def TB (σ : Sg) : Prop := 0 ≤ σ 7 0 ∧ σ 7 0 ≤ 2000
theorem SB.th {σ σ' : Sg} {n : Nat} (h : SB σ n) (ht : SameTh σ σ') : SB σ' n := fun a ha => by
  rw [ht 15 a (by omega), ht 22 a (by omega)]
  exact h a ha
theorem lt_m1 {x : Int32} (h : -1 ≤ x) : x < 0 ↔ x = -1 := by
  constructor
  · intro q
    have h1 := ti_le.mp h
    have h2 := ti_lt.mp q
    have z0 : (0 : Int32).toInt = 0 := rfl
    have z1 : (-1 : Int32).toInt = -1 := rfl
    apply Int32.toInt_inj.mp
    omega
  · intro q; rw [q]; decide
theorem back_le {t u b : Int32} (h1 : 0 ≤ t ∧ t ≤ 2000) (h2 : 0 ≤ u ∧ u ≤ 1000) (h3 : -1 ≤ b ∧ b ≤ 9999) : t - u ≤ b ↔ t ≤ u + b := by
  have a1 := ti_le.mp h1.1
  have a2 := ti_le.mp h1.2
  have a3 := ti_le.mp h2.1
  have a4 := ti_le.mp h2.2
  have a5 := ti_le.mp h3.1
  have a6 := ti_le.mp h3.2
  have z0 : (0 : Int32).toInt = 0 := rfl
  have z1 : (-1 : Int32).toInt = -1 := rfl
  have z2 : (2000 : Int32).toInt = 2000 := rfl
  have z3 : (1000 : Int32).toInt = 1000 := rfl
  have z4 : (9999 : Int32).toInt = 9999 := rfl
  rw [ti_le, ti_le, ti_sub (by omega) (by omega), ti_add (by omega) (by omega)]
  omega
section X4
variable {np na nl nb ng w : Nat} {μ μ' : Mem} {σ : Sg} {Q : Res → Mem → Prop} {m : Bool}
theorem RepX.cg {σ' : Sg} (h : RepX w σ μ) (e : ∀ c i, σ' c i = σ c i) : RepX w σ' μ := fun c i hs => by rw [e]; exact h c i hs
theorem X_gets {a : Nat} {x : Int32} (hX : XP np na nl nb ng μ) (hv : XMv w na μ) (hR : RepX w σ μ) (hw : w < 2) (hm : m = decide (w = 0)) (hx : x = nI a) (ha : a < na) (hn : na ≤ 120) (hB : SB σ na) (hT : TB σ) (h : ∀ μ', RepX w (getsF m σ a) μ' → μ'.2 = μ.2 → FX (SY w) (TY w) μ μ' → Q rV μ') : Ct RX1 cX1_gets (5, none, [], false, rmm 1 0 0) [vr 1 0, vr 4 w, vi x] μ Q := by
  refine Ct.of (ls := [some (vr 1 0), some (vr 4 w), some (vi x), none, none]) rfl fun Γ C ad => ?_
  have ha2 : a < 120 := by omega
  have hR1 : RepX w (up2 σ 0 a 7) (sI μ (34 + w) a 0 7) := hR.set hw 0 a 7 (sX_col (by decide))
  have hR2 : RepX w (up2 (up2 σ 0 a 7) 3 a (σ 7 0)) (sI (sI μ (34 + w) a 0 7) (34 + w) a 4 (σ 7 0)) := hR1.set hw 3 a (σ 7 0) (sX_col (by decide))
  have hF : FX (SY w) (TY w) μ (sI (sI μ (34 + w) a 0 7) (34 + w) a 4 (σ 7 0)) := (FX.rf.wI (Or.inl rfl)).wI (Or.inl rfl)
  obtain ⟨b1, b2⟩ := hB a ha
  unfold getsF at h
  have no : m = false ∨ σ 22 a < 0 ∨ σ 7 0 - σ 15 a ≤ σ 22 a → Z RX1 cX1_gets (5, none, [], false, rmm 1 0 0) (Γ, C, μ, ad, Q) (0) (0) (sI (sI μ (34 + w) a 0 7) (34 + w) a 4 (σ 7 0)) 71 [some (vr 1 0), some (vr 4 w), some (vi x), some (vr (34 + w) a), some (vr 32 a)] [] := by
    intro q
    rw [if_pos q] at h
    refine z_return dX1_gets_71 rfl (Nat.le_of_ble_eq_true rfl) (Nat.le_of_ble_eq_true rfl) ?_
    exact h _ hR2 rfl hF
  refine z_aload1 dX1_gets_0 (z_getP fl_X1_232 dX1_gets_1 rfl rfl (hX.f4 _ hw) (z_iload2 dX1_gets_4 (z_aald dX1_gets_5 rfl (by decide) rfl ⟨hx, ha2, Nat.le_of_ble_eq_true rfl⟩ (hv a ha) (z_astore3 dX1_gets_6 (z_aload3 dX1_gets_7 (z_bipush (v := 7) dX1_gets_8 (by decide) (z_putI fl_X1_236 dX1_gets_10 (kdW hw) rfl ⟨rfl, rfl⟩ (z_aload3 dX1_gets_13 (z_aload1 dX1_gets_14 (z_getIv fl_X1_140 dX1_gets_15 rfl rfl (hR1.wd 0 (by decide)) (z_putI fl_X1_323 dX1_gets_18 (kdW hw) rfl ⟨rfl, rfl⟩ (z_aload0 dX1_gets_21 (z_getP fl_X1_35 dX1_gets_22 rfl rfl (hX.f1 4 (by decide)) (z_iload2 dX1_gets_25 (z_aald dX1_gets_26 rfl (by decide) rfl ⟨hx, ha2, Nat.le_of_ble_eq_true rfl⟩ (hX.as ha) (z_getP fl_X1_222 dX1_gets_27 rfl rfl (hX.ru ha) (z_astore4 dX1_gets_30 (z_aload4 dX1_gets_32 (z_getIv fl_X1_261 dX1_gets_34 rfl rfl (hR2.q 22 _ (by decide)) (z_iconst (v := (-1)) dX1_gets_37 (by decide) (z_icmp_eq 71 dX1_gets_38 (by decide) (fun c_38 => ?_) (fun c_38 => ?_))))))))))))))))))))))
  · exact no (Or.inr (Or.inl ((lt_m1 b2.1).mpr c_38)))
  · have n1 : ¬ σ 22 a < 0 := fun q => c_38 ((lt_m1 b2.1).mp q)
    refine z_aload1 dX1_gets_41 (z_getIv fl_X1_140 dX1_gets_42 rfl rfl (hR2.wd 0 (by decide)) (z_aload0 dX1_gets_45 (z_getP fl_X1_35 dX1_gets_46 rfl rfl (hX.f1 4 (by decide)) (z_iload2 dX1_gets_49 (z_aald dX1_gets_50 rfl (by decide) rfl ⟨hx, ha2, Nat.le_of_ble_eq_true rfl⟩ (hX.as ha) (z_getIv fl_X1_314 dX1_gets_51 rfl rfl (hR2.q 15 _ (by decide)) (z_aload4 dX1_gets_54 (z_getIv fl_X1_261 dX1_gets_56 rfl rfl (hR2.q 22 _ (by decide)) (z_iadd dX1_gets_59 (z_icmp_le 71 dX1_gets_60 (by decide) (fun c_60 => ?_) (fun c_60 => ?_)))))))))))
    · exact no (Or.inr (Or.inr ((back_le hT b1 b2).mpr c_60)))
    · have n2 : ¬ σ 7 0 - σ 15 a ≤ σ 22 a := fun q => c_60 ((back_le hT b1 b2).mp q)
      refine z_aload1 dX1_gets_63 (z_aload0 dX1_gets_64 (z_getP fl_X1_42 dX1_gets_65 rfl rfl (hX.f1 5 (by decide)) (z_acmp_eq 72 dX1_gets_68 (by decide) (Nat.succ_ne_zero _) (Nat.succ_ne_zero _) (fun c_68 => ?_) (fun c_68 => ?_))))
      · have ew : w = 0 := congrArg Prod.snd c_68
        subst ew
        rw [if_neg (fun q => q.elim (fun q => by rw [hm] at q; exact absurd q (by decide)) (fun q => q.elim n1 n2))] at h
        have hR3 : RepX 0 (up2 (up2 (up2 σ 0 a 7) 3 a (σ 7 0)) 6 a 1) (sI (sI (sI μ (34 + 0) a 0 7) (34 + 0) a 4 (σ 7 0)) (34 + 0) a 7 1) := hR2.set hw 6 a 1 (sX_col (by decide))
        refine z_aload3 dX1_gets_72 (z_iconst (v := 1) dX1_gets_73 (by decide) (z_putI fl_X1_317 dX1_gets_74 (kdW hw) rfl ⟨rfl, rfl⟩ (z_aload0 dX1_gets_77 (z_dupa dX1_gets_78 (z_getIv fl_X1_374 dX1_gets_79 rfl rfl (hR3.b5) (z_aload4 dX1_gets_82 (z_getIv fl_X1_255 dX1_gets_84 rfl rfl (hR3.q 18 _ (by decide)) (z_iadd dX1_gets_87 (z_putI fl_X1_374 dX1_gets_88 rfl rfl ⟨rfl, rfl⟩ (z_return dX1_gets_91 rfl (Nat.le_of_ble_eq_true rfl) (Nat.le_of_ble_eq_true rfl) ?_))))))))))
        exact h _ (hR3.set hw 7 5 _ (show (5 : Nat) < 6 by decide)) rfl ((hF.wI (Or.inl rfl)).wI (Or.inr (Or.inr ⟨rfl, Or.inr ⟨rfl, rfl⟩⟩)))
      · have ew : ¬ w = 0 := fun q => c_68 (by rw [q]; rfl)
        exact no (Or.inl (by rw [hm]; exact decide_eq_false ew))
end X4
