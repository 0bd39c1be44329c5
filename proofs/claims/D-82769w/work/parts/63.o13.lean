/-! the Office: rulings -/
section O13
variable {μ μ' : Mem} {σ : Sg} {Λ : Lws} {Q : Res → Mem → Prop} {np na nl nb ng : Nat}
theorem X_ruInit {P j : Nat} (hK : kd P = .inl 11) (h : Q rV (sI (sI μ P j 2 10) P j 4 (-1))) : Ct RX13 cX13_init (1, none, [], true, rmm 1 0 0) [vr P j] μ Q := by
  refine Ct.of (ls := [some (vr P j)]) rfl fun Γ C ad => ?_
  refine z_aload0 dX13_init_0 (z_objInit co_X13_3 dX13_init_1 (by decide) (by decide) (z_aload0 dX13_init_4 (z_bipush (v := 10) dX13_init_5 (by decide) (z_putI fl_X13_9 dX13_init_7 hK rfl ⟨rfl, rfl⟩ (z_aload0 dX13_init_10 (z_iconst (v := (-1)) dX13_init_11 (by decide) (z_putI fl_X13_15 dX13_init_12 hK rfl ⟨rfl, rfl⟩ (z_return dX13_init_15 rfl (Nat.le_of_ble_eq_true rfl) (Nat.le_of_ble_eq_true rfl) ?_))))))))
  exact h
/-- a ruling that is made: its cell, all else as it was -/
def RU (P : Nat) (μ0 : Mem) (r : Rul) (y : Int32) (μ : Mem) : Prop := FX (fun p i _ => p = P ∧ i = gC μ0 P) (fun p => p = P) μ0 μ ∧ gC μ P = gC μ0 P + 1 ∧ gI μ P (gC μ0 P) 0 = r.1 ∧ gI μ P (gC μ0 P) 1 = r.2.1 ∧ gI μ P (gC μ0 P) 2 = y ∧ gI μ P (gC μ0 P) 3 = r.2.2.2.1 ∧ gI μ P (gC μ0 P) 4 = r.2.2.2.2.1 ∧ gI μ P (gC μ0 P) 5 = r.2.2.2.2.2
theorem RU.w {P : Nat} {r : Rul} {y : Int32} (h : RU P μ r y μ') {k : Nat} {v : Int32} {r' : Rul} {y' : Int32} (e : ∀ q, q < 6 → (if q = k then v else (if q = 0 then r.1 else if q = 1 then r.2.1 else if q = 2 then y else if q = 3 then r.2.2.2.1 else if q = 4 then r.2.2.2.2.1 else r.2.2.2.2.2)) = (if q = 0 then r'.1 else if q = 1 then r'.2.1 else if q = 2 then y' else if q = 3 then r'.2.2.2.1 else if q = 4 then r'.2.2.2.2.1 else r'.2.2.2.2.2)) : RU P μ r' y' (sI μ' P (gC μ P) k v) := by
  obtain ⟨h1, h2, a0, a1, a2, a3, a4, a5⟩ := h
  have g : ∀ q, gI (sI μ' P (gC μ P) k v) P (gC μ P) q = if q = k then v else gI μ' P (gC μ P) q := fun q => by
    rw [gI_sI]
    by_cases z : q = k
    · rw [if_pos ⟨rfl, rfl, z⟩, if_pos z]
    · rw [if_neg (fun t => z t.2.2), if_neg z]
  refine ⟨h1.wI ⟨rfl, rfl⟩, h2, ?_, ?_, ?_, ?_, ?_, ?_⟩
  · rw [g, a0]; exact e 0 (by decide)
  · rw [g, a1]; exact e 1 (by decide)
  · rw [g, a2]; exact e 2 (by decide)
  · rw [g, a3]; exact e 3 (by decide)
  · rw [g, a4]; exact e 4 (by decide)
  · rw [g, a5]; exact e 5 (by decide)
theorem RU.new {P : Nat} (hn : ¬ (P = 27 ∨ P = 46) → 0 = fl P) : RU P μ (0, 0, -1, 0, -1, 0) 10 (sI (sI (nw μ P 0) P (gC μ P) 2 10) P (gC μ P) 4 (-1)) := by
  refine ⟨((FX.wN (S := fun p i _ => p = P ∧ i = gC μ P) (T := fun p => p = P) FX.rf rfl (fun _ => ⟨rfl, rfl⟩) hn).wI ⟨rfl, rfl⟩).wI ⟨rfl, rfl⟩, by show gC (nw μ P 0) P = _; rw [gC_nw, if_pos rfl], ?_, ?_, ?_, ?_, ?_, ?_⟩ <;> simp [gI_sI, gI_nw]
/-- the clauses of a law are as they should be -/
def ClOK (l : List Cl3) : Prop := ∀ c, c < l.length → (0 ≤ (l.getD c (0, 0, [])).1 ∧ (l.getD c (0, 0, [])).1 ≤ 5) ∧ ((l.getD c (0, 0, [])).1 ≠ 0 → (l.getD c (0, 0, [])).1 ≠ 4 → 0 ≤ (l.getD c (0, 0, [])).2.1 ∧ (l.getD c (0, 0, [])).2.1 ≤ 9999)
def BY (r : Rul) : Prop := (r.2.2.1 = -1 ∨ (0 ≤ r.2.2.1 ∧ r.2.2.1 ≤ 9999)) ∧ (r.2.2.2.2.1 = -1 ∨ (0 ≤ r.2.2.2.2.1 ∧ r.2.2.2.2.1 ≤ 9999))
theorem jmax_b {x v : Int32} (h : x = -1 ∨ (0 ≤ x ∧ x ≤ 9999)) (hv : 0 ≤ v ∧ v ≤ 9999) : jmax x v = -1 ∨ (0 ≤ jmax x v ∧ jmax x v ≤ 9999) := by
  unfold jmax
  split
  · exact Or.inr hv
  · exact h
theorem jmin_b {x v : Int32} (h : 0 ≤ x ∧ x ≤ 9999) (hv : 0 ≤ v ∧ v ≤ 9999) : 0 ≤ jmin x v ∧ jmin x v ≤ 9999 := by
  unfold jmin
  split
  · exact hv
  · exact h
theorem by_stp {φ : Nat → Int32} {r : Rul} {q : Cl3} (h : BY r) (hq : (0 ≤ q.1 ∧ q.1 ≤ 5) ∧ (q.1 ≠ 0 → q.1 ≠ 4 → 0 ≤ q.2.1 ∧ q.2.1 ≤ 9999)) : BY (jStp φ r q) := by
  unfold jStp
  split
  · split
    · exact h
    · rename_i n0
      split
      · exact h
      · split
        · rename_i e2
          exact ⟨jmax_b h.1 (hq.2 n0 (by rw [e2]; decide)), h.2⟩
        · split
          · exact h
          · split
            · exact h
            · rename_i n4
              refine ⟨h.1, ?_⟩
              have hv := hq.2 n0 n4
              show (if r.2.2.2.2.1 < 0 then q.2.1 else jmin r.2.2.2.2.1 q.2.1) = -1 ∨ _
              split
              · exact Or.inr hv
              · rename_i n5
                have hb : 0 ≤ r.2.2.2.2.1 ∧ r.2.2.2.2.1 ≤ 9999 := h.2.resolve_left fun q => n5 (by rw [q]; decide)
                exact Or.inr (jmin_b hb hv)
  · exact h
theorem by_jLn {φ : Nat → Int32} {l : List Cl3} (h : ClOK l) : ∀ k, k ≤ l.length → BY (jLn φ l k)
  | 0, _ => ⟨Or.inl rfl, Or.inl rfl⟩
  | k + 1, hk => by_stp (by_jLn h k (by omega)) (h k (by omega))
theorem hld_nil {φ : Nat → Int32} {q : Cl3} (h : q.2.2 = []) : hldB φ q = true := by unfold hldB; rw [h]; rfl
theorem hld_f {φ : Nat → Int32} {q : Cl3} {f : (Nat → Int32) → Bool} (h : ∀ φ stk, evL φ q.2.2 stk = some (f φ :: stk)) : hldB φ q = f φ := by unfold hldB; rw [h]
theorem lt0_m1 {x : Int32} (h : x = -1 ∨ (0 ≤ x ∧ x ≤ 9999)) : x < 0 ↔ x = -1 := by
  constructor
  · intro q; exact h.resolve_right fun z => absurd z.1 (Int32.not_le.mpr q)
  · intro q; rw [q]; decide
theorem X_rules {φ : Nat → Int32} {P l : Nat} {L : List Cl3} (hK : kd P = .inl 11) (hP : P = 32 ∨ P = 48) (hφ : ∀ j, j < 9 → gI μ 21 0 j = φ j) (e1 : gI μ 26 l 1 = nI L.length) (e2 : gP μ 26 l 2 = some (27, l)) (e3 : gL μ 27 l = L.length) (hL : L.length ≤ 16) (hc : ∀ c, c < L.length → ∃ h, gP μ 27 l c = some (28, h) ∧ clX μ h (L.getD c (0, 0, []))) (h : ∀ μ', RU P μ (yrF (jLn φ L L.length)) (yrF (jLn φ L L.length)).2.2.1 μ' → Q (rO (some (P, gC μ P))) μ') : Ct RX11 cX11_rules (6, some (.object "PassportOffice$Ruling"), [], false, rmm 402 1 6) [vr 26 l, vr 21 0] μ Q := by
  refine Ct.of (ls := [some (vr 26 l), some (vr 21 0), none, none, none, none]) rfl fun Γ C ad => ?_
  have hP2 : ¬ (P = 27 ∨ P = 46) := by omega
  have hP3 : fl P = 0 := by rcases hP with rfl | rfl <;> rfl
  have hok : ClOK L := fun c hc' => by
    obtain ⟨h, -, g⟩ := hc c hc'
    exact ⟨g.2.1, fun n0 n4 => (g.2.2.2.2.1 n0 n4).2⟩
  have lp : ∀ k, k ≤ L.length → ∀ (μ' : Mem) (o : Option AV), RU P μ (jLn φ L k) 10 μ' → Z RX11 cX11_rules (6, some (.object "PassportOffice$Ruling"), [], false, rmm 402 1 6) (Γ, C, μ, ad, Q) 1 6 μ' 13 [some (vr 26 l), some (vr 21 0), some (vr P (gC μ P)), some (vi (jLn φ L k).2.2.1), some (vi (nI k)), o] [] := by
    refine loopN (P := fun k => ∀ (μ' : Mem) (o : Option AV), RU P μ (jLn φ L k) 10 μ' → Z RX11 cX11_rules (6, some (.object "PassportOffice$Ruling"), [], false, rmm 402 1 6) (Γ, C, μ, ad, Q) 1 6 μ' 13 [some (vr 26 l), some (vr 21 0), some (vr P (gC μ P)), some (vi (jLn φ L k).2.2.1), some (vi (nI k)), o] []) L.length ?_ ?_
    · intro μ' o hU
      have g1 : gI μ' 26 l 1 = nI L.length := (hU.1.I (by omega)).trans e1
      have hby := (by_jLn (φ := φ) hok L.length (Nat.le_refl _)).1
      refine z_iload4 dX11_rules_13 (z_aload0 dX11_rules_15 (z_getIv fl_X11_15 dX11_rules_16 rfl rfl (g1) (z_icmp_ge 204 dX11_rules_19 (by decide) (fun _ => z_iload3 dX11_rules_204 (z_iconst (v := (-1)) dX11_rules_205 (by decide) (z_icmp_eq 214 dX11_rules_206 (by decide) (fun c_206 => ?_) (fun c_206 => ?_)))) (fun c => absurd (Int32.le_refl _) c))))
      · refine z_aload2 dX11_rules_214 (z_areturn dX11_rules_215 rfl (Or.inl ⟨_, rfl⟩) (Nat.le_of_ble_eq_true rfl) (Nat.le_of_ble_eq_true rfl) ?_)
        refine h μ' ?_
        have ey : (yrF (jLn φ L L.length)).2.2.1 = 10 := by
          show (if (jLn φ L L.length).2.2.1 < 0 then 10 else _) = 10
          rw [if_pos ((lt0_m1 hby).mpr c_206)]
        rw [ey]
        exact hU
      · refine z_aload2 dX11_rules_209 (z_iload3 dX11_rules_210 (z_putI fl_X11_74 dX11_rules_211 hK rfl ⟨rfl, rfl⟩ (z_aload2 dX11_rules_214 (z_areturn dX11_rules_215 rfl (Or.inl ⟨_, rfl⟩) (Nat.le_of_ble_eq_true rfl) (Nat.le_of_ble_eq_true rfl) ?_))))
        refine h _ (RU.w hU fun q hq => ?_)
        have ey : (yrF (jLn φ L L.length)).2.2.1 = (jLn φ L L.length).2.2.1 := by
          show (if (jLn φ L L.length).2.2.1 < 0 then 10 else _) = _
          rw [if_neg (fun z => c_206 ((lt0_m1 hby).mp z))]
        rw [ey]
        have : q = 0 ∨ q = 1 ∨ q = 2 ∨ q = 3 ∨ q = 4 ∨ q = 5 := by omega
        rcases this with rfl | rfl | rfl | rfl | rfl | rfl <;> rfl
    · intro k hk ih μ' o hU
      have F := hU.1
      have g1 : gI μ' 26 l 1 = nI L.length := (F.I (by omega)).trans e1
      have g2 : gP μ' 26 l 2 = some (27, l) := (F.P l 2 (by omega)).trans e2
      obtain ⟨hh, c1, c2⟩ := hc k hk
      have kp : KP μ μ' := KP.fx F (fun p i k hp => by omega) (fun p hp => by omega)
      have c2' := c2.kp kp
      have c1' : gP μ' 27 l k = some (28, hh) := (F.P l k (by omega)).trans c1
      have gl : gL μ' 27 l = L.length := (F.L l (by omega)).trans e3
      have ixk : Ix (nI k) k (gL μ' 27 l) := ⟨rfl, by rw [gl]; exact hk, by rw [gl]; omega⟩
      obtain ⟨d1, d2, d3, d4, d5, d6⟩ := c2'
      have hby := by_jLn (φ := φ) hok k (by omega)
      rw [jLn] at ih
      generalize hq : L.getD k (0, 0, []) = q at *
      generalize hr : jLn φ L k = r at *
      obtain ⟨-, u1, a0, a1, a2, a3, a4, a5⟩ := id hU
      have skip : hldB φ q = false → Z RX11 cX11_rules (6, some (.object "PassportOffice$Ruling"), [], false, rmm 402 1 6) (Γ, C, μ, ad, Q) 1 6 μ' 198 [some (vr 26 l), some (vr 21 0), some (vr P (gC μ P)), some (vi r.2.2.1), some (vi (nI k)), some (vr 28 hh)] [] := by
        intro hl
        have eS : jStp φ r q = r := by unfold jStp; rw [if_neg (by rw [hl]; decide)]
        rw [eS] at ih
        refine z_iinc4 dX11_rules_198 (inc1 k) (z_goto 13 dX11_rules_201 (by decide) ?_)
        exact ih μ' _ hU
      have act : hldB φ q = true → Z RX11 cX11_rules (6, some (.object "PassportOffice$Ruling"), [], false, rmm 402 1 6) (Γ, C, μ, ad, Q) 1 6 μ' 54 [some (vr 26 l), some (vr 21 0), some (vr P (gC μ P)), some (vi r.2.2.1), some (vi (nI k)), some (vr 28 hh)] [] := by
        intro hl
        unfold jStp at ih
        rw [if_pos hl] at ih
        obtain ⟨s, hs, es⟩ := in_nI (n := 5) d2 rfl
        have split6 : ∀ q : Nat, q < 6 → q = 0 ∨ q = 1 ∨ q = 2 ∨ q = 3 ∨ q = 4 ∨ q = 5 := fun q h => by omega
        match s, hs with
        | 0, _ =>
          have es : q.1 = 0 := es
          obtain ⟨jj, j1, j2, j3⟩ := d4 es
          have dw : gI μ' 28 hh 0 = 0 := by rw [d3, es]; rfl
          rw [if_pos es] at ih
          refine z_aload5 dX11_rules_54 (z_getIv fl_X11_43 dX11_rules_56 rfl rfl (dw) (z_tabIn 92 dX11_rules_59 (by decide) (by decide) rfl (by decide) (z_aload2 dX11_rules_92 (z_dupa dX11_rules_93 (z_getIv fl_X11_46 dX11_rules_94 hK rfl (a0) (z_iconst (v := 1) dX11_rules_97 (by decide) (z_aload5 dX11_rules_98 (z_getIv fl_X11_49 dX11_rules_100 rfl rfl (j2) (z_ishl dX11_rules_103 (z_ior dX11_rules_104 (z_putI fl_X11_46 dX11_rules_105 hK rfl ⟨rfl, rfl⟩ (z_goto 198 dX11_rules_108 (by decide) (z_iinc4 dX11_rules_198 (inc1 k) (z_goto 13 dX11_rules_201 (by decide) ?_))))))))))))))
          rw [← j3]
          exact ih _ _ (RU.w hU fun q hq => by rcases split6 q hq with rfl | rfl | rfl | rfl | rfl | rfl <;> rfl)
        | 1, _ =>
          have es : q.1 = 1 := es
          have n0 : ¬ q.1 = 0 := by rw [es]; decide
          obtain ⟨v1, -⟩ := d5 n0 (by rw [es]; decide)
          have dw : gI μ' 28 hh 0 = 1 := by rw [d3, es]; rfl
          rw [if_neg n0, if_pos es] at ih
          refine z_aload5 dX11_rules_54 (z_getIv fl_X11_43 dX11_rules_56 rfl rfl (dw) (z_tabIn 111 dX11_rules_59 (by decide) (by decide) rfl (by decide) (z_aload2 dX11_rules_111 (z_dupa dX11_rules_112 (z_getIv fl_X11_52 dX11_rules_113 hK rfl (a1) (z_aload5 dX11_rules_116 (z_getIv fl_X11_49 dX11_rules_118 rfl rfl (v1) (z_iadd dX11_rules_121 (z_putI fl_X11_52 dX11_rules_122 hK rfl ⟨rfl, rfl⟩ (z_goto 198 dX11_rules_125 (by decide) (z_iinc4 dX11_rules_198 (inc1 k) (z_goto 13 dX11_rules_201 (by decide) ?_))))))))))))
          exact ih _ _ (RU.w hU fun q hq => by rcases split6 q hq with rfl | rfl | rfl | rfl | rfl | rfl <;> rfl)
        | 2, _ =>
          have es : q.1 = 2 := es
          have n0 : ¬ q.1 = 0 := by rw [es]; decide
          obtain ⟨v1, -⟩ := d5 n0 (by rw [es]; decide)
          have dw : gI μ' 28 hh 0 = 3 := by rw [d3, es]; rfl
          rw [if_neg n0, if_neg (by rw [es]; decide), if_pos es] at ih
          refine z_aload5 dX11_rules_54 (z_getIv fl_X11_43 dX11_rules_56 rfl rfl (dw) (z_tabIn 163 dX11_rules_59 (by decide) (by decide) rfl (by decide) (z_iload3 dX11_rules_163 (z_aload5 dX11_rules_164 (z_getIv fl_X11_49 dX11_rules_166 rfl rfl (v1) (z_invS2 (md_J11_max _) cs_X11_64 dX11_rules_169 rfl (Nat.le_of_ble_eq_true rfl) (Rm.ofB rfl) (J_max (z_istore3 dX11_rules_172 (z_goto 198 dX11_rules_173 (by decide) (z_iinc4 dX11_rules_198 (inc1 k) (z_goto 13 dX11_rules_201 (by decide) ?_)))))))))))
          exact ih _ _ hU
        | 3, _ =>
          have es : q.1 = 3 := es
          have n0 : ¬ q.1 = 0 := by rw [es]; decide
          obtain ⟨v1, -⟩ := d5 n0 (by rw [es]; decide)
          have dw : gI μ' 28 hh 0 = 4 := by rw [d3, es]; rfl
          rw [if_neg n0, if_neg (by rw [es]; decide), if_neg (by rw [es]; decide), if_pos es] at ih
          refine z_aload5 dX11_rules_54 (z_getIv fl_X11_43 dX11_rules_56 rfl rfl (dw) (z_tabIn 176 dX11_rules_59 (by decide) (by decide) rfl (by decide) (z_aload2 dX11_rules_176 (z_dupa dX11_rules_177 (z_getIv fl_X11_67 dX11_rules_178 hK rfl (a3) (z_aload5 dX11_rules_181 (z_getIv fl_X11_49 dX11_rules_183 rfl rfl (v1) (z_iadd dX11_rules_186 (z_putI fl_X11_67 dX11_rules_187 hK rfl ⟨rfl, rfl⟩ (z_goto 198 dX11_rules_190 (by decide) (z_iinc4 dX11_rules_198 (inc1 k) (z_goto 13 dX11_rules_201 (by decide) ?_))))))))))))
          exact ih _ _ (RU.w hU fun q hq => by rcases split6 q hq with rfl | rfl | rfl | rfl | rfl | rfl <;> rfl)
        | 4, _ =>
          have es : q.1 = 4 := es
          have n0 : ¬ q.1 = 0 := by rw [es]; decide
          have dw : gI μ' 28 hh 0 = 5 := by rw [d3, es]; rfl
          rw [if_neg n0, if_neg (by rw [es]; decide), if_neg (by rw [es]; decide), if_neg (by rw [es]; decide), if_pos es] at ih
          refine z_aload5 dX11_rules_54 (z_getIv fl_X11_43 dX11_rules_56 rfl rfl (dw) (z_tabOut 193 dX11_rules_59 (by decide) (by decide) (z_aload2 dX11_rules_193 (z_iconst (v := 1) dX11_rules_194 (by decide) (z_putI fl_X11_70 dX11_rules_195 hK rfl ⟨rfl, rfl⟩ (z_iinc4 dX11_rules_198 (inc1 k) (z_goto 13 dX11_rules_201 (by decide) ?_)))))))
          exact ih _ _ (RU.w hU fun q hq => by rcases split6 q hq with rfl | rfl | rfl | rfl | rfl | rfl <;> rfl)
        | 5, _ =>
          have es : q.1 = 5 := es
          have n0 : ¬ q.1 = 0 := by rw [es]; decide
          obtain ⟨v1, -⟩ := d5 n0 (by rw [es]; decide)
          have dw : gI μ' 28 hh 0 = 2 := by rw [d3, es]; rfl
          rw [if_neg n0, if_neg (by rw [es]; decide), if_neg (by rw [es]; decide), if_neg (by rw [es]; decide), if_neg (by rw [es]; decide)] at ih
          by_cases hb : r.2.2.2.2.1 = -1
          · rw [if_pos ((lt0_m1 hby.2).mpr hb)] at ih
            refine z_aload5 dX11_rules_54 (z_getIv fl_X11_43 dX11_rules_56 rfl rfl (dw) (z_tabIn 128 dX11_rules_59 (by decide) (by decide) rfl (by decide) (z_aload2 dX11_rules_128 (z_aload2 dX11_rules_129 (z_getIv fl_X11_55 dX11_rules_130 hK rfl (a4) (z_iconst (v := (-1)) dX11_rules_133 (by decide) (z_icmp_ne 145 dX11_rules_134 (by decide) (fun c => absurd (hb) c) (fun _ => z_aload5 dX11_rules_137 (z_getIv fl_X11_49 dX11_rules_139 rfl rfl (v1) (z_goto 157 dX11_rules_142 (by decide) (z_putI fl_X11_55 dX11_rules_157 hK rfl ⟨rfl, rfl⟩ (z_goto 198 dX11_rules_160 (by decide) (z_iinc4 dX11_rules_198 (inc1 k) (z_goto 13 dX11_rules_201 (by decide) ?_))))))))))))))
            exact ih _ _ (RU.w hU fun q hq => by rcases split6 q hq with rfl | rfl | rfl | rfl | rfl | rfl <;> rfl)
          · rw [if_neg (fun z => hb ((lt0_m1 hby.2).mp z))] at ih
            refine z_aload5 dX11_rules_54 (z_getIv fl_X11_43 dX11_rules_56 rfl rfl (dw) (z_tabIn 128 dX11_rules_59 (by decide) (by decide) rfl (by decide) (z_aload2 dX11_rules_128 (z_aload2 dX11_rules_129 (z_getIv fl_X11_55 dX11_rules_130 hK rfl (a4) (z_iconst (v := (-1)) dX11_rules_133 (by decide) (z_icmp_ne 145 dX11_rules_134 (by decide) (fun _ => z_aload2 dX11_rules_145 (z_getIv fl_X11_55 dX11_rules_146 hK rfl (a4) (z_aload5 dX11_rules_149 (z_getIv fl_X11_49 dX11_rules_151 rfl rfl (v1) (z_invS2 (md_J11_min _) cs_X11_58 dX11_rules_154 rfl (Nat.le_of_ble_eq_true rfl) (Rm.ofB rfl) (J_min (z_putI fl_X11_55 dX11_rules_157 hK rfl ⟨rfl, rfl⟩ (z_goto 198 dX11_rules_160 (by decide) (z_iinc4 dX11_rules_198 (inc1 k) (z_goto 13 dX11_rules_201 (by decide) ?_)))))))))) (fun c => absurd c (hb)))))))))
            exact ih _ _ (RU.w hU fun q hq => by rcases split6 q hq with rfl | rfl | rfl | rfl | rfl | rfl <;> rfl)
        | s + 6, hs => omega
      rcases d6 with ⟨z1, z2⟩ | ⟨hcd, f, z1, z2, z3⟩
      · refine z_iload4 dX11_rules_13 (z_aload0 dX11_rules_15 (z_getIv fl_X11_15 dX11_rules_16 rfl rfl (g1) (z_icmp_ge 204 dX11_rules_19 (by decide) (fun c => absurd c (nI_ge hk (by omega))) (fun _ => z_aload0 dX11_rules_22 (z_getP fl_X11_20 dX11_rules_23 rfl rfl g2 (z_iload4 dX11_rules_26 (z_aald dX11_rules_28 rfl (by decide) rfl ixk c1' (z_astore5 dX11_rules_29 (z_aload5 dX11_rules_31 (z_getP fl_X11_33 dX11_rules_33 rfl rfl z2 (z_ifnull 54 dX11_rules_36 (by decide) (fun _ => ?_) (fun _ c => by cases c))))))))))))
        exact act (hld_nil z1)
      · have hφ' : ∀ j, j < 9 → gI μ' 21 0 j = φ j := fun j hj => (F.I (by omega)).trans (hφ j hj)
        have hh2 := X_holds hφ' 400 hcd f z2
        have ef := hld_f (φ := φ) z3
        refine z_iload4 dX11_rules_13 (z_aload0 dX11_rules_15 (z_getIv fl_X11_15 dX11_rules_16 rfl rfl (g1) (z_icmp_ge 204 dX11_rules_19 (by decide) (fun c => absurd c (nI_ge hk (by omega))) (fun _ => z_aload0 dX11_rules_22 (z_getP fl_X11_20 dX11_rules_23 rfl rfl g2 (z_iload4 dX11_rules_26 (z_aald dX11_rules_28 rfl (by decide) rfl ixk c1' (z_astore5 dX11_rules_29 (z_aload5 dX11_rules_31 (z_getP fl_X11_33 dX11_rules_33 rfl rfl z1 (z_ifnull 54 dX11_rules_36 (by decide) (fun c => by cases c) (fun _ _ => z_aload5 dX11_rules_39 (z_getP fl_X11_33 dX11_rules_41 rfl rfl z1 (z_aload1 dX11_rules_44 (z_hc cu_X11_8 cu_X11_9 cu_X11_10 dX11_rules_45 hh2 z2.pool (by decide) (leB rfl) (leB rfl) (leB rfl) (z_if_ne 54 dX11_rules_48 (by decide) (fun c_48 => ?_) (fun c_48 => ?_)))))))))))))))))
        · exact act (ef.trans (bI_n0 c_48))
        · refine z_goto 198 dX11_rules_51 (by decide) ?_
          exact skip (ef.trans (bI_0.mp c_48))
  refine z_new P nw_X11_30 dX11_rules_0 hK hP2 hP3 (Nat.le_of_ble_eq_true rfl) (Nat.le_of_ble_eq_true rfl) (z_dupa dX11_rules_3 (z_invI0 (md_X13_init _) ci_X11_32 dX11_rules_4 rfl (Nat.le_of_ble_eq_true rfl) (Rm.ofB rfl) (X_ruInit hK (z_astore2 dX11_rules_7 (z_iconst (v := (-1)) dX11_rules_8 (by decide) (z_istore3 dX11_rules_9 (z_iconst (v := 0) dX11_rules_10 (by decide) (z_istore4 dX11_rules_11 ?_))))))))
  exact lp 0 (Nat.zero_le _) _ none (RU.new fun _ => hP3.symm)
end O13
