/-! the Office: judging -/
section O14
variable {μ μ' : Mem} {σ : Sg} {Λ : Lws} {Q : Res → Mem → Prop} {np na nl nb ng : Nat}
def S21 : Nat → Nat → Nat → Prop := fun p _ _ => p = 21
theorem RepX.e21 (h : RepX 0 σ μ) (hD : Dif S21 μ μ') : RepX 0 σ μ' := fun c i hs => by
  unfold gX
  rw [hD.2 _ _ _ fun q => xl_sc hs (by unfold S21 at q; unfold SC; omega)]
  exact h c i hs
/-- a ruling that is made, with the facts -/
def RW (P : Nat) (μ0 : Mem) (r : Rul) (μ : Mem) : Prop := FX (fun p i _ => (p = P ∧ i = gC μ0 P) ∨ p = 21) (fun p => p = P) μ0 μ ∧ gC μ P = gC μ0 P + 1 ∧ gI μ P (gC μ0 P) 0 = r.1 ∧ gI μ P (gC μ0 P) 1 = r.2.1 ∧ gI μ P (gC μ0 P) 2 = r.2.2.1 ∧ gI μ P (gC μ0 P) 3 = r.2.2.2.1 ∧ gI μ P (gC μ0 P) 4 = r.2.2.2.2.1 ∧ gI μ P (gC μ0 P) 5 = r.2.2.2.2.2
theorem X_ruling {P p : Nat} {x kind wanted : Int32} {u : Bool} (hK : kd P = .inl 11) (hP : P = 32 ∨ P = 48) (hX : XQ np nb ng μ) (hR : RepX 0 σ μ) (hL : LawX σ Λ μ) (hx : x = nI p) (hp : p < np) (hnp : np ≤ 80) (hb : σ 7 4 = nI nb) (hb2 : nb ≤ 150) (hg : σ 34 0 = nI ng) (hg2 : ng ≤ 12) (h : ∀ μ', RW P μ (rulF σ Λ p kind wanted u) μ' → Q (rO (some (P, gC μ P))) μ') : Ct RX1 cX1_ruling (8, some (.object "PassportOffice$Ruling"), [], false, rmm 403 1 6) [vr 1 0, vi x, vi kind, vi wanted, vi (bI u)] μ Q := by
  refine Ct.of (ls := [some (vr 1 0), some (vi x), some (vi kind), some (vi wanted), some (vi (bI u)), none, none, none]) rfl fun Γ C ad => ?_
  subst hx
  have hP2 : ¬ (P = 27 ∨ P = 46) := by omega
  have hP3 : fl P = 0 := by rcases hP with rfl | rfl <;> rfl
  have p80 : p < 80 := by omega
  by_cases hl : lawF σ (σ 7 0) < 0
  · have el : lwO (lawF σ (σ 7 0)) = none := by rw [lwO, if_pos hl]
    rw [rulF, if_pos hl] at h
    refine z_aload0 dX1_ruling_0 (z_aload0 dX1_ruling_1 (z_getP fl_X1_42 dX1_ruling_2 rfl rfl (hX.f1 5 (by decide)) (z_getIv fl_X1_140 dX1_ruling_5 rfl rfl (hR.wd 0 (by decide)) (z_invV1 (md_X1_lawOf _) cv_X1_176 rfl dX1_ruling_8 rfl (Nat.le_of_ble_eq_true rfl) (Rm.ofB rfl) (X_lawOf hX hR hg hg2 (?_))))))
    rw [el]
    refine z_astore5 dX1_ruling_11 (z_aload5 dX1_ruling_13 (z_ifnonnull 26 dX1_ruling_15 (by decide) (fun _ c => by cases c) (fun _ => z_new P nw_X1_180 dX1_ruling_18 hK hP2 hP3 (Nat.le_of_ble_eq_true rfl) (Nat.le_of_ble_eq_true rfl) (z_dupa dX1_ruling_21 (z_invI0 (md_X13_init _) ci_X1_182 dX1_ruling_22 rfl (Nat.le_of_ble_eq_true rfl) (Rm.ofB rfl) (X_ruInit hK (z_areturn dX1_ruling_25 rfl (Or.inl ⟨_, rfl⟩) (Nat.le_of_ble_eq_true rfl) (Nat.le_of_ble_eq_true rfl) ?_)))))))
    have hU := RU.new (μ := μ) (P := P) fun _ => hP3.symm
    exact h _ ⟨hU.1.mono (fun _ _ _ q => Or.inl q) (fun _ q => q), hU.2⟩
  · have el : lwO (lawF σ (σ 7 0)) = some (26, tn (lawF σ (σ 7 0))) := by rw [lwO, if_neg hl]
    rw [rulF, if_neg hl] at h
    obtain ⟨l, hlt, ell⟩ : ∃ l, l < ng ∧ lawF σ (σ 7 0) = nI l := by
      have := lawS_in σ (σ 7 0) (tn (σ 34 0))
      rw [hg, tn_nI (by omega)] at this
      rw [lawF, hg, tn_nI (by omega)] at hl ⊢
      rcases this with q | ⟨j, h1, h2⟩
      · rw [q] at hl; exact absurd (by decide) hl
      · exact ⟨j, h1, h2⟩
    rw [ell, tn_nI (by omega)] at h el
    obtain ⟨l1, l2, l3, l4, l5, l6⟩ := hL l (by rw [hg, tn_nI (by omega)]; exact hlt)
    have g39 : gI μ 26 l 1 = nI (Λ l).length := (hR.q 39 l (by decide)).trans l4
    refine z_aload0 dX1_ruling_0 (z_aload0 dX1_ruling_1 (z_getP fl_X1_42 dX1_ruling_2 rfl rfl (hX.f1 5 (by decide)) (z_getIv fl_X1_140 dX1_ruling_5 rfl rfl (hR.wd 0 (by decide)) (z_invV1 (md_X1_lawOf _) cv_X1_176 rfl dX1_ruling_8 rfl (Nat.le_of_ble_eq_true rfl) (Rm.ofB rfl) (X_lawOf hX hR hg hg2 (?_))))))
    rw [ell]
    have el2 : lwO (nI l) = some (26, l) := by rw [← ell] at el ⊢; exact el
    rw [el2]
    -- the last step
    have last : ∀ μ', Dif S21 μ μ' → (∀ j, j < 9 → gI μ' 21 0 j = phiF σ p kind wanted u j) → ∀ o7 : Option AV, Z RX1 cX1_ruling (8, some (.object "PassportOffice$Ruling"), [], false, rmm 403 1 6) (Γ, C, μ, ad, Q) 0 0 μ' 161 [some (vr 1 0), some (vi (nI p)), some (vi kind), some (vi wanted), some (vi (bI u)), some (vr 26 l), some (vr 23 p), o7] [] := by
      intro μ' hD hφ o7
      have hX' : XQ np nb ng μ' := hX.of fun p i k _ => hD.P p i k
      have kp : KP μ μ' := fun q hq => ⟨Nat.le_of_eq (hD.C q).symm, fun i _ => ⟨hD.L q i, fun k => ⟨hD.2 q i k (by unfold S21; omega), hD.P q i k⟩⟩⟩
      have eC : gC μ' P = gC μ P := hD.C P
      refine z_aload5 dX1_ruling_161 (z_aload0 dX1_ruling_163 (z_getP fl_X1_68 dX1_ruling_164 rfl rfl (hX'.f1 11 (by decide)) (z_invV1 (md_X11_rules _) cv_X1_193 rfl dX1_ruling_167 rfl (Nat.le_of_ble_eq_true rfl) (Rm.ofB rfl) (X_rules (φ := phiF σ p kind wanted u) (L := Λ l) hK hP hφ ((hD.2 26 l 1 (by unfold S21; omega)).trans g39) ((hD.P 26 l 2).trans l2) ((hD.L 27 l).trans l3) l5 (fun c hc => by obtain ⟨hh, c1, c2⟩ := l6 c hc; exact ⟨hh, (hD.P 27 l c).trans c1, c2.kp kp⟩) (fun μ2 hU => ?_)))))
      refine z_areturn dX1_ruling_170 rfl (Or.inl ⟨_, rfl⟩) (Nat.le_of_ble_eq_true rfl) (Nat.le_of_ble_eq_true rfl) ?_
      obtain ⟨f1, f2, f3⟩ := hU
      rw [eC] at f1 f2 f3 ⊢
      refine h μ2 ⟨⟨fun p i k q => ?_, fun p q => ?_⟩, f2, f3⟩
      · exact (f1.I (fun z => q (Or.inl z))).trans (hD.2 p i k (fun z => q (Or.inr z)))
      · exact ⟨(f1.C q).trans (hD.C p), fun i => ⟨(f1.L i q).trans (hD.L p i), fun k => (f1.P i k q).trans (hD.P p i k)⟩⟩
    have lp : ∀ k, k ≤ 4 → ∀ μ', Dif S21 μ μ' → (∀ j, j < 4 + k → gI μ' 21 0 j = phiF σ p kind wanted u j) → Z RX1 cX1_ruling (8, some (.object "PassportOffice$Ruling"), [], false, rmm 403 1 6) (Γ, C, μ, ad, Q) 0 0 μ' 112 [some (vr 1 0), some (vi (nI p)), some (vi kind), some (vi wanted), some (vi (bI u)), some (vr 26 l), some (vr 23 p), some (vi (nI k))] [] := by
      refine loopN (P := fun k => ∀ μ', Dif S21 μ μ' → (∀ j, j < 4 + k → gI μ' 21 0 j = phiF σ p kind wanted u j) → Z RX1 cX1_ruling (8, some (.object "PassportOffice$Ruling"), [], false, rmm 403 1 6) (Γ, C, μ, ad, Q) 0 0 μ' 112 [some (vr 1 0), some (vi (nI p)), some (vi kind), some (vi wanted), some (vi (bI u)), some (vr 26 l), some (vr 23 p), some (vi (nI k))] []) 4 ?_ ?_
      · intro μ' hD hφ
        have hX' : XQ np nb ng μ' := hX.of fun p i k _ => hD.P p i k
        have fin : ∀ v, v = bI u → Z RX1 cX1_ruling (8, some (.object "PassportOffice$Ruling"), [], false, rmm 403 1 6) (Γ, C, μ, ad, Q) 0 0 μ' 160 [some (vr 1 0), some (vi (nI p)), some (vi kind), some (vi wanted), some (vi (bI u)), some (vr 26 l), some (vr 23 p), some (vi (nI 4))] [vi v, vi 8, vr 21 0] := by
          intro v hv
          subst hv
          refine z_iast dX1_ruling_160 rfl ⟨rfl, (show 8 < 9 by decide), Nat.le_of_ble_eq_true rfl⟩ ?_
          refine last _ (hD.tr (Dif.sI rfl)) (fun j hj => ?_) _
          rw [gI_sI]
          by_cases q : j = 8
          · rw [if_pos ⟨rfl, rfl, q⟩, q]; rfl
          · rw [if_neg (fun z => q z.2.2)]; exact hφ j (by omega)
        refine z_iload7 dX1_ruling_112 (z_iconst (v := 4) dX1_ruling_114 (by decide) (z_icmp_ge 144 dX1_ruling_115 (by decide) (fun _ => z_aload0 dX1_ruling_144 (z_getP fl_X1_68 dX1_ruling_145 rfl rfl (hX'.f1 11 (by decide)) (z_bipush (v := 8) dX1_ruling_148 (by decide) (z_iload4 dX1_ruling_150 (z_if_eq 159 dX1_ruling_152 (by decide) (fun c_152 => ?_) (fun c_152 => ?_)))))) (fun c => absurd (lpt (n := 4) rfl) c)))
        · refine z_iconst (v := 0) dX1_ruling_159 (by decide) ?_
          exact fin _ c_152.symm
        · refine z_iconst (v := 1) dX1_ruling_155 (by decide) (z_goto 160 dX1_ruling_156 (by decide) ?_)
          exact fin _ (by rw [bI_n0 c_152]; rfl)
      · intro k hk ih μ' hD hφ
        have hX' : XQ np nb ng μ' := hX.of fun p i k _ => hD.P p i k
        have e4 : (4 : Int32) + nI k = nI (4 + k) := by rw [show (4 : Int32) = nI 4 from rfl, nI_add]
        have eφ : phiF σ p kind wanted u (4 + k) = if kind = nI k then 1 else 0 := by
          unfold phiF
          rw [if_neg (by omega), if_neg (by omega), if_neg (by omega), if_neg (by omega), if_neg (by omega), show 4 + k - 4 = k by omega]
        have fin : ∀ v, v = phiF σ p kind wanted u (4 + k) → Z RX1 cX1_ruling (8, some (.object "PassportOffice$Ruling"), [], false, rmm 403 1 6) (Γ, C, μ, ad, Q) 0 0 μ' 137 [some (vr 1 0), some (vi (nI p)), some (vi kind), some (vi wanted), some (vi (bI u)), some (vr 26 l), some (vr 23 p), some (vi (nI k))] [vi v, vi (4 + nI k), vr 21 0] := by
          intro v hv
          refine z_iast dX1_ruling_137 rfl ⟨e4, (show 4 + k < 9 by omega), Nat.le_of_ble_eq_true rfl⟩ (z_iinc7 dX1_ruling_138 (inc1 k) (z_goto 112 dX1_ruling_141 (by decide) ?_))
          refine ih _ (hD.tr (Dif.sI rfl)) (fun j hj => ?_)
          rw [gI_sI]
          by_cases q : j = 4 + k
          · rw [if_pos ⟨rfl, rfl, q⟩, q]; exact hv
          · rw [if_neg (fun z => q z.2.2)]; exact hφ j (by omega)
        refine z_iload7 dX1_ruling_112 (z_iconst (v := 4) dX1_ruling_114 (by decide) (z_icmp_ge 144 dX1_ruling_115 (by decide) (fun c => absurd c (lpf (n := 4) rfl hk (by decide))) (fun _ => z_aload0 dX1_ruling_118 (z_getP fl_X1_68 dX1_ruling_119 rfl rfl (hX'.f1 11 (by decide)) (z_iconst (v := 4) dX1_ruling_122 (by decide) (z_iload7 dX1_ruling_123 (z_iadd dX1_ruling_125 (z_iload2 dX1_ruling_126 (z_iload7 dX1_ruling_127 (z_icmp_ne 136 dX1_ruling_129 (by decide) (fun c_129 => ?_) (fun c_129 => ?_)))))))))))
        · refine z_iconst (v := 0) dX1_ruling_136 (by decide) ?_
          exact fin _ (by rw [eφ, if_neg c_129])
        · refine z_iconst (v := 1) dX1_ruling_132 (by decide) (z_goto 137 dX1_ruling_133 (by decide) ?_)
          exact fin _ (by rw [eφ, if_pos c_129])
    have D1 : ∀ v, Dif S21 μ (sI μ 21 0 0 v) := fun v => Dif.sI rfl
    have D2 : ∀ v w, Dif S21 μ (sI (sI μ 21 0 0 v) 21 0 1 w) := fun v w => (D1 v).tr (Dif.sI rfl)
    have D3 : ∀ v w z, Dif S21 μ (sI (sI (sI μ 21 0 0 v) 21 0 1 w) 21 0 2 z) := fun v w z => (D2 v w).tr (Dif.sI rfl)
    have j108 : ∀ v, v = (if σ 25 p = 0 then 0 else 1) → Z RX1 cX1_ruling (8, some (.object "PassportOffice$Ruling"), [], false, rmm 403 1 6) (Γ, C, μ, ad, Q) 0 0 (sI (sI (sI μ 21 0 0 ((σ 7 0 - σ 24 p) / 365)) 21 0 1 (wanted - σ 7 0)) 21 0 2 (validF σ (nI p) (σ 7 0))) 108 [some (vr 1 0), some (vi (nI p)), some (vi kind), some (vi wanted), some (vi (bI u)), some (vr 26 l), some (vr 23 p), none] [vi v, vi 3, vr 21 0] := by
      intro v hv
      subst hv
      refine z_iast dX1_ruling_108 rfl ⟨rfl, (show 3 < 9 by decide), Nat.le_of_ble_eq_true rfl⟩ (z_iconst (v := 0) dX1_ruling_109 (by decide) (z_istore7 dX1_ruling_110 ?_))
      refine lp 0 (by decide) _ ((D3 _ _ _).tr (Dif.sI rfl)) (fun j hj => ?_)
      have : j = 0 ∨ j = 1 ∨ j = 2 ∨ j = 3 := by omega
      rcases this with rfl | rfl | rfl | rfl <;> simp [gI_sI, phiF]
    refine z_astore5 dX1_ruling_11 (z_aload5 dX1_ruling_13 (z_ifnonnull 26 dX1_ruling_15 (by decide) (fun _ _ => z_aload0 dX1_ruling_26 (z_getP fl_X1_24 dX1_ruling_27 rfl rfl (hX.f1 2 (by decide)) (z_iload1 dX1_ruling_30 (z_aald dX1_ruling_31 rfl (by decide) rfl ⟨rfl, p80, Nat.le_of_ble_eq_true rfl⟩ (hX.pe hp) (z_astore6 dX1_ruling_32 (z_aload0 dX1_ruling_34 (z_getP fl_X1_68 dX1_ruling_35 rfl rfl (hX.f1 11 (by decide)) (z_iconst (v := 0) dX1_ruling_38 (by decide) (z_aload0 dX1_ruling_39 (z_getP fl_X1_42 dX1_ruling_40 rfl rfl (hX.f1 5 (by decide)) (z_getIv fl_X1_140 dX1_ruling_43 rfl rfl (hR.wd 0 (by decide)) (z_aload6 dX1_ruling_46 (z_getIv fl_X1_183 dX1_ruling_48 rfl rfl (hR.q 24 _ (by decide)) (z_isub dX1_ruling_51 (z_sipush (v := 365) dX1_ruling_52 (by decide) (z_idiv dX1_ruling_55 (by decide) (z_iast dX1_ruling_56 rfl ⟨rfl, (show 0 < 9 by decide), Nat.le_of_ble_eq_true rfl⟩ (z_aload0 dX1_ruling_57 (z_getP fl_X1_68 dX1_ruling_58 rfl rfl (hX.f1 11 (by decide)) (z_iconst (v := 1) dX1_ruling_61 (by decide) (z_iload3 dX1_ruling_62 (z_aload0 dX1_ruling_63 (z_getP fl_X1_42 dX1_ruling_64 rfl rfl (hX.f1 5 (by decide)) (z_getIv fl_X1_140 dX1_ruling_67 rfl rfl ((hR.e21 (D1 _)).wd 0 (by decide)) (z_isub dX1_ruling_70 (z_iast dX1_ruling_71 rfl ⟨rfl, (show 1 < 9 by decide), Nat.le_of_ble_eq_true rfl⟩ (z_aload0 dX1_ruling_72 (z_getP fl_X1_68 dX1_ruling_73 rfl rfl (hX.f1 11 (by decide)) (z_iconst (v := 2) dX1_ruling_76 (by decide) (z_aload0 dX1_ruling_77 (z_iload1 dX1_ruling_78 (z_aload0 dX1_ruling_79 (z_getP fl_X1_42 dX1_ruling_80 rfl rfl (hX.f1 5 (by decide)) (z_getIv fl_X1_140 dX1_ruling_83 rfl rfl ((hR.e21 (D2 _ _)).wd 0 (by decide)) (z_invV2 (md_X1_validOf _) cv_X1_186 rfl dX1_ruling_86 rfl (Nat.le_of_ble_eq_true rfl) (Rm.ofB rfl) (X_validOf (hX.of fun _ _ _ _ => rfl) (hR.e21 (D2 _ _)) hb hb2 (z_iast dX1_ruling_89 rfl ⟨rfl, (show 2 < 9 by decide), Nat.le_of_ble_eq_true rfl⟩ (z_aload0 dX1_ruling_90 (z_getP fl_X1_68 dX1_ruling_91 rfl rfl (hX.f1 11 (by decide)) (z_iconst (v := 3) dX1_ruling_94 (by decide) (z_aload6 dX1_ruling_95 (z_getIv fl_X1_190 dX1_ruling_97 rfl rfl ((hR.e21 (D3 _ _ _)).q 25 p (by decide)) (z_if_eq 107 dX1_ruling_100 (by decide) (fun c_100 => ?_) (fun c_100 => ?_)))))))))))))))))))))))))))))))))))))))))))) (fun c => by cases c)))
    · refine z_iconst (v := 0) dX1_ruling_107 (by decide) ?_
      exact j108 _ (by rw [if_pos c_100])
    · refine z_iconst (v := 1) dX1_ruling_103 (by decide) (z_goto 108 dX1_ruling_104 (by decide) ?_)
      exact j108 _ (by rw [if_neg c_100])
theorem X_askedT {kind wanted : Int32} (hX : XP np na nl nb ng μ) (hR : RepX 0 σ μ) (hc : isK σ kind wanted) (h : Q rV μ) : Ct RX1 cX1_isAsked (3, none, [], false, rmm 7 1 6) [vr 1 0, vi kind, vi wanted] μ Q := by
  refine Ct.of (ls := [some (vr 1 0), some (vi kind), some (vi wanted)]) rfl fun Γ C ad => ?_
  refine z_iload1 dX1_isAsked_0 (z_iconst (v := 0) dX1_isAsked_1 (by decide) (z_iconst (v := 3) dX1_isAsked_2 (by decide) (z_invS3 (md_X1_isIn _) cs_X1_114 dX1_isAsked_3 rfl (Nat.le_of_ble_eq_true rfl) (Rm.ofB rfl) (X_inT hc.1 (z_if_eq 30 dX1_isAsked_6 (by decide) (fun c => absurd c (n10)) (fun _ => z_iload2 dX1_isAsked_9 (z_aload0 dX1_isAsked_10 (z_getP fl_X1_42 dX1_isAsked_11 rfl rfl (hX.f1 5 (by decide)) (z_getIv fl_X1_140 dX1_isAsked_14 rfl rfl (hR.wd 0 (by decide)) (z_sipush (v := 1000) dX1_isAsked_17 (by decide) (z_invS3 (md_X1_isIn _) cs_X1_114 dX1_isAsked_20 rfl (Nat.le_of_ble_eq_true rfl) (Rm.ofB rfl) (X_inT hc.2 (z_if_eq 30 dX1_isAsked_23 (by decide) (fun c => absurd c (n10)) (fun _ => z_iconst (v := 1) dX1_isAsked_26 (by decide) (z_goto 31 dX1_isAsked_27 (by decide) (z_invS1 (md_X1_must _) cs_X1_143 dX1_isAsked_31 rfl (Nat.le_of_ble_eq_true rfl) (Rm.ofB rfl) (X_mustT (z_return dX1_isAsked_34 rfl (Nat.le_of_ble_eq_true rfl) (Nat.le_of_ble_eq_true rfl) ?_))))))))))))))))))
  exact h
theorem X_askedF {kind wanted : Int32} (hX : XP np na nl nb ng μ) (hR : RepX 0 σ μ) (hc : ¬ isK σ kind wanted) (h : ∀ μ' i, FX SE TE μ μ' → Q (rX 38 i) μ') : Ct RX1 cX1_isAsked (3, none, [], false, rmm 7 1 6) [vr 1 0, vi kind, vi wanted] μ Q := by
  refine Ct.of (ls := [some (vr 1 0), some (vi kind), some (vi wanted)]) rfl fun Γ C ad => ?_
  by_cases h1 : 0 ≤ kind ∧ kind ≤ 3
  · refine z_iload1 dX1_isAsked_0 (z_iconst (v := 0) dX1_isAsked_1 (by decide) (z_iconst (v := 3) dX1_isAsked_2 (by decide) (z_invS3 (md_X1_isIn _) cs_X1_114 dX1_isAsked_3 rfl (Nat.le_of_ble_eq_true rfl) (Rm.ofB rfl) (X_inT h1 (z_if_eq 30 dX1_isAsked_6 (by decide) (fun c => absurd c (n10)) (fun _ => z_iload2 dX1_isAsked_9 (z_aload0 dX1_isAsked_10 (z_getP fl_X1_42 dX1_isAsked_11 rfl rfl (hX.f1 5 (by decide)) (z_getIv fl_X1_140 dX1_isAsked_14 rfl rfl (hR.wd 0 (by decide)) (z_sipush (v := 1000) dX1_isAsked_17 (by decide) (z_invS3 (md_X1_isIn _) cs_X1_114 dX1_isAsked_20 rfl (Nat.le_of_ble_eq_true rfl) (Rm.ofB rfl) (X_inF (fun q => hc ⟨h1, q⟩) (z_if_eq 30 dX1_isAsked_23 (by decide) (fun _ => z_iconst (v := 0) dX1_isAsked_30 (by decide) (z_invS1 (md_X1_must _) cs_X1_143 dX1_isAsked_31 rfl (Nat.le_of_ble_eq_true rfl) (Rm.ofB rfl) (X_mustF ?_))) (fun c => absurd (rfl) c))))))))))))))
    exact fun μ' i q => ⟨rfl, h μ' i q⟩
  · refine z_iload1 dX1_isAsked_0 (z_iconst (v := 0) dX1_isAsked_1 (by decide) (z_iconst (v := 3) dX1_isAsked_2 (by decide) (z_invS3 (md_X1_isIn _) cs_X1_114 dX1_isAsked_3 rfl (Nat.le_of_ble_eq_true rfl) (Rm.ofB rfl) (X_inF h1 (z_if_eq 30 dX1_isAsked_6 (by decide) (fun _ => z_iconst (v := 0) dX1_isAsked_30 (by decide) (z_invS1 (md_X1_must _) cs_X1_143 dX1_isAsked_31 rfl (Nat.le_of_ble_eq_true rfl) (Rm.ofB rfl) (X_mustF ?_))) (fun c => absurd (rfl) c))))))
    exact fun μ' i q => ⟨rfl, h μ' i q⟩
end O14
