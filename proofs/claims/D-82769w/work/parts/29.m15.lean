/-! Model: reading conditions -/
section ZW
theorem ldcw_str {p : Program} {l : Launch} {e : Env} {R : Room} {s : State} {m : MethodId} {args : Array Value} {below : List Frame} {meth : Method} {c : Code} {T : State} {locs : List Loc} {cells slots : Nat}
    (X : Stand p l e R s m args below meth c T locs cells slots) (hexec : p.tables.exec = Jvm.exec) {own text : String} {index : Nat} {a : Addr} (hown : s.vm.findClass own = some m.cls)
    (hconst : (Cond.stringRef own index text).before args s = true) (hev : (Term.string own index).eval args s none [] s = some (.ref a)) {g : JFrame} (hg : g.method = m) (hdg : decode c.code g.pc = .ok (.ldc_w index, 3)) :
    ∀ target, Steps p.tables e below (T.setTop { g with pc := g.pc + 3, stack := .ref a :: g.stack }) target → Steps p.tables e below (T.setTop g) target := by
  obtain ⟨k, cf, i, a', hk, hcf, hcp, -, hr, hev'⟩ := Cond.stringRef_spec hown hconst
  cases hev.symm.trans hev'
  obtain ⟨k', hk', he⟩ := X.warmed.alike.2.2 _ _ hk
  have hr' : k'.resolved[index]? = some (some (.string a)) := by
    rcases X.warmed.entry hk hk' index with h | ⟨h, -⟩
    · rw [h]; exact hr
    · rw [hr] at h; cases h
  intro target hrest
  subst hg
  jvm_step X.here [hexec, hdg, ldc_w.wp_string (e := e) (s := T) (f := g) X.here.top hk' (by rw [he]; exact hcf) hcp hr']
  exact hrest
variable {own : String} {cc : ByteArray} {mm : MM} {E : Ex} {k n : Nat} {μ : Mem} {pc : Nat} {ls : List (Option AV)} {st : List AV}
theorem z_ldcSw {idx : Nat} {tx : String} (i : Nat) (hs : strL[i]? = some (own, idx, tx)) (hd : decode cc pc = .ok (.ldc_w idx, 3)) (kk : Z own cc mm E k n μ (pc + 3) ls (vr 0 i :: st)) : Z own cc mm E k n μ pc ls st := by
  intro ad H locs la h
  have e : strL.length = 54 := by decide +kernel
  have e2 : strB.length = 54 := by decide +kernel
  have hi : i < 54 := by have := (List.getElem?_eq_some_iff.mp hs).1; omega
  have hb : strB[i]? = some (strB[i]'(by omega)) := List.getElem?_eq_getElem _
  obtain ⟨a1, -⟩ := h.kk.2.2.1.1 i _ _ hs hb
  have kk' := kk ad H locs la (h.stk (LvL.cons (h.l0 (by omega)) h.lst))
  have ev : cv ad (vr 0 i) = .ref (E.1.2.2.2.1 i) := by show Value.ref (ad 0 i) = _; rw [h.adK hi]
  rw [List.map_cons, ev] at kk'
  intro T hT X
  obtain ⟨t, b1, b2⟩ := kk' T hT X
  exact ⟨t, ldcw_str X h.ex h.ow (text := tx) a1.1 a1.2 (g := F0 (cM E) pc la (st.map (cv ad))) rfl (by rw [h.bs]; exact hd) t b1, b2⟩
theorem Rm.sy {a a' D D' L k n : Nat} {r r' : Option FieldType} {hs hs' : List (Nat × Nat × Nat × Nat)} {i i' : Bool} (h1 : D' + 1 ≤ D) (h2 : 2 * L + a' + 11 ≤ 64) (hk : k = 0) (hn : n = 0) : Rm (a, r, hs, i, rmm D 0 0) (a', r', hs', i', rmm D' 0 0) k n L := by
  subst hk; subst hn
  refine ⟨h1, ?_, Nat.le_refl _, Nat.le_refl _⟩
  show 2 * L + (a' + 11) + 64 * D' ≤ 64 * D
  omega
end ZW
section M15
variable {μ μ' : Mem} {Q : Res → Mem → Prop} {T : Nat → Int32} {e a b : Nat}
def SQ (s : Nat) : Nat → Nat → Nat → Prop := fun p i k => i = 0 ∧ ((p = 50 ∧ (k = 4 ∨ k = 6 ∨ k = 7 ∨ k = 20)) ∨ ((p = 67 ∨ p = 68 ∨ p = 69) ∧ 4800 + s ≤ k))
theorem SR_SQ {s p i k : Nat} (h : SR p i k) : SQ s p i k := ⟨h.2.1, Or.inl ⟨h.1, by have := h.2.2; omega⟩⟩
theorem SA_SQ {s s' p i k : Nat} (hs : s ≤ s') (h : SA s' p i k) : SQ s p i k := ⟨h.1, by have := h.2; omega⟩
theorem SQ_SQ {s s' p i k : Nat} (hs : s ≤ s') (h : SQ s' p i k) : SQ s p i k := ⟨h.1, by have := h.2; omega⟩
theorem nSQ {s : Nat} : ¬ SQ s 50 0 5 ∧ ∀ j, ¬ SQ s 53 0 j := ⟨fun q => by have := q.2; omega, fun j q => by have := q.2; omega⟩
def stp (μ : Mem) (s : Nat) (st : List Sp3) : Prop := ∀ j, j < st.length → gI μ 67 0 (4800 + (s + j)) = (st.getD j (0, 0, 0)).1 ∧ gI μ 68 0 (4800 + (s + j)) = (st.getD j (0, 0, 0)).2.1 ∧ gI μ 69 0 (4800 + (s + j)) = (st.getD j (0, 0, 0)).2.2
theorem stp.keep {s s' : Nat} {st : List Sp3} (h : stp μ s st) (hs : s + st.length ≤ s') (hD : Dif (SQ s') μ μ') : stp μ' s st := fun j hj => by
  have n : ∀ p, p = 67 ∨ p = 68 ∨ p = 69 → ¬ SQ s' p 0 (4800 + (s + j)) := fun p hp q => by have := q.2; omega
  rw [hD.2 _ _ _ (n 67 (by omega)), hD.2 _ _ _ (n 68 (by omega)), hD.2 _ _ _ (n 69 (by omega))]
  exact h j hj
theorem stp.app {s : Nat} {st st' : List Sp3} (h : stp μ s st) (h' : stp μ (s + st.length) st') : stp μ s (st ++ st') := fun j hj => by
  rcases Nat.lt_or_ge j st.length with q | q
  · rw [getD_app q]; exact h j q
  · rw [getD_appR q]
    have := h' (j - st.length) (by rw [List.length_append] at hj; omega)
    rw [show s + st.length + (j - st.length) = s + j by omega] at this
    exact this
theorem stp.one {s : Nat} {x y z : Int32} (h1 : gI μ 67 0 (4800 + s) = x) (h2 : gI μ 68 0 (4800 + s) = y) (h3 : gI μ 69 0 (4800 + s) = z) : stp μ s [(x, y, z)] := fun j hj => by
  have : j = 0 := by simpa using hj
  subst this
  exact ⟨h1, h2, h3⟩
theorem stp.nil {s : Nat} : stp μ s [] := fun j hj => absurd hj (Nat.not_lt_zero _)
/-- what a reading comes to -/
def PRES (T : Nat → Int32) (e : Nat) (μ : Mem) (s d : Nat) (Q : Res → Mem → Prop) (r : Pr) : Prop := match r with
  | .inl x => ∀ μ', Dif (SQ s) μ μ' → gI μ' 50 0 6 = nI x → Q (rI 0) μ'
  | .inr q => ∀ μ', Dif (SQ s) μ μ' → RD T e q.1 μ' → gI μ' 50 0 7 = nI d → gI μ' 50 0 20 = nI (s + q.2.length) → stp μ' s q.2 → Q (rI 1) μ'
theorem PRES.l {s d x : Nat} {r : Pr} (hc : r = .inl x) (k : ∀ μ', Dif (SQ s) μ μ' → gI μ' 50 0 6 = nI x → Q (rI 0) μ') : PRES T e μ s d Q r := by subst hc; exact k
theorem PRES.r {s d : Nat} {q : Nat × List Sp3} {r : Pr} (hc : r = .inr q) (k : ∀ μ', Dif (SQ s) μ μ' → RD T e q.1 μ' → gI μ' 50 0 7 = nI d → gI μ' 50 0 20 = nI (s + q.2.length) → stp μ' s q.2 → Q (rI 1) μ') : PRES T e μ s d Q r := by subst hc; exact k
theorem k7 (h : Dif SR μ μ') : gI μ' 50 0 7 = gI μ 50 0 7 := h.2 _ _ _ fun q => by have := q.2.2; omega
theorem k20 (h : Dif SR μ μ') : gI μ' 50 0 20 = gI μ 50 0 20 := h.2 _ _ _ fun q => by have := q.2.2; omega
/-- a fact -/
theorem M_fct {s d D : Nat} {C : Cx} {Γ : Gx} {ad : Ad} {μ0 : Mem} (hD : 7 ≤ D) (hr : RD T e b μ) (hb : skB T e b = b) (h7 : gI μ 50 0 7 = nI d) (h20 : gI μ 50 0 20 = nI s) (hs : s ≤ b) (h : PRES T e μ s d Q (fctP T e b)) :
    Z RX5 cX5_readAtom (4, some .boolean, [], false, rmm D 0 0) (Γ, C, μ0, ad, Q) 0 0 μ 116 [some (vr 50 0), none, none, none] [] := by
  have e4 := hr.2.1.2
  have be := hr.2.2.1.2
  have w1 := wdE_ge T e b
  have w2 : wdE T e b ≤ e := skE_le be
  refine z_aload0 dX5_readAtom_116 (z_invV0 (md_X5_word _) cv_X5_210 rfl dX5_readAtom_117 rfl (by decide) (Rm.sy (by omega) (by decide) rfl rfl) (M_word hr (fun μ1 hr1 hb1 hD1 => ?_)))
  rw [hb] at hr1 hb1
  generalize hf : fstW T b (wdE T e b) wFact = f at *
  have hf9 : f ≤ 9 := by rw [← hf]; exact fstW_le _ _ _
  have len9 : wFact.length = 9 := rfl
  -- the search
  have found : Z RX5 cX5_readAtom (4, some .boolean, [], false, rmm D 0 0) (Γ, C, μ0, ad, Q) 0 0 μ1 145 [some (vr 50 0), some (vi (nI f)), none, none] [] := by
    by_cases q9 : f = 9
    · unfold fctP at h
      rw [hf, if_pos q9] at h
      refine z_iload1 dX5_readAtom_145 (z_bipush (v := 9) dX5_readAtom_146 (by decide) (z_icmp_ne 153 dX5_readAtom_148 (by decide) (fun c => absurd ((by rw [q9]; rfl)) c) (fun _ => z_iconst (v := 0) dX5_readAtom_151 (by decide) (z_zreturn dX5_readAtom_152 rfl rfl (Nat.le_of_ble_eq_true rfl) (Nat.le_of_ble_eq_true rfl) ?_))))
      exact h μ1 (hD1.mono fun _ _ _ q => SR_SQ q) hb1
    · have hlt : f < 9 := by omega
      have hw := fstW_is (T := T) b (wdE T e b) wFact (by omega)
      rw [hf] at hw
      have l3 : 3 ≤ wdE T e b - b := by
        rw [isW_len hw]
        have hl : ∀ k, k < 9 → 3 ≤ (wFact.getD k []).length := by decide +kernel
        exact hl f hlt
      unfold fctP at h
      rw [hf, if_neg q9] at h
      refine z_iload1 dX5_readAtom_145 (z_bipush (v := 9) dX5_readAtom_146 (by decide) (z_icmp_ne 153 dX5_readAtom_148 (by decide) (fun _ => ?_) (fun c => absurd c ((fun z => q9 ((nI_eq (b := 9) (by omega) (by decide)).mp z))))))
      refine z_aload0 dX5_readAtom_153 (z_invV0 (md_X5_blanksBetween _) cv_X5_197 rfl dX5_readAtom_154 rfl (by decide) (Rm.sy (by omega) (by decide) rfl rfl) (M_blanks hr1 (fun μ2 hr2 hb2 hD2 => ?_)))
      generalize hc : skB T e (wdE T e b) = c at *
      have hcge : wdE T e b ≤ c := by rw [← hc]; exact skB_ge _ _ _
      have hD02 : Dif SR μ μ2 := hD1.tr hD2
      have n20 : gI μ2 50 0 20 = nI s := (k20 hD02).trans h20
      have n7 : gI μ2 50 0 7 = nI d := (k7 hD02).trans h7
      -- with a number
      have num : ∀ (x : Nat) (μ3 : Mem), (x = 1 ∨ x = 2) → c < e → RD T e (c + 1) μ3 → Dif SR μ μ3 →
          PRES T e μ s d Q (match numP T e (c + 1) with | .inl y => .inl y | .inr q => .inr (q.1, [(nI f, nI x, q.2)])) →
          Z RX5 cX5_readAtom (4, some .boolean, [], false, rmm D 0 0) (Γ, C, μ0, ad, Q) 0 0 μ3 203 [some (vr 50 0), some (vi (nI f)), some (vi (nI x)), none] [] := by
        intro x μ3 hx hce hr3 hD3 h3
        have hx0 : ¬ nI x ≤ 0 := nI_nle (by omega) (by omega)
        refine z_iload2 dX5_readAtom_203 (z_if_le 214 dX5_readAtom_204 (by decide) (fun c => absurd c (hx0)) (fun _ => z_aload0 dX5_readAtom_207 (z_invV0 (md_X5_number _) cv_X5_281 rfl dX5_readAtom_208 rfl (by decide) (Rm.sy (by omega) (by decide) rfl rfl) (M_number hr3 (fun μ4 hr4 hb4 hD4 => ?_)))))
        have hD04 : Dif SR μ μ4 := hD3.tr hD4
        unfold numP at h3
        by_cases qn : dgE T e (skB T e (c + 1)) = skB T e (c + 1) ∨ 4 < dgE T e (skB T e (c + 1)) - skB T e (c + 1)
        · rw [if_pos qn] at h3 ⊢
          refine z_goto 215 dX5_readAtom_211 (by decide) (z_istore3 dX5_readAtom_215 (z_iload3 dX5_readAtom_216 (z_if_ge 222 dX5_readAtom_217 (by decide) (fun c => absurd c ((by decide))) (fun _ => z_iconst (v := 0) dX5_readAtom_220 (by decide) (z_zreturn dX5_readAtom_221 rfl rfl (Nat.le_of_ble_eq_true rfl) (Nat.le_of_ble_eq_true rfl) ?_)))))
          exact h3 μ4 (hD04.mono fun _ _ _ q => SR_SQ q) hb4
        · have hnum : numP T e (c + 1) = .inr (dgE T e (skB T e (c + 1)), numV T (skB T e (c + 1)) (dgE T e (skB T e (c + 1)) - skB T e (c + 1))) := by unfold numP; rw [if_neg qn]
          have hv0 := (numP_ok (by omega) hnum).2.2
          rw [if_neg qn] at h3 ⊢
          have h4s := (k20 hD04).trans h20
          refine z_goto 215 dX5_readAtom_211 (by decide) (z_istore3 dX5_readAtom_215 (z_iload3 dX5_readAtom_216 (z_if_ge 222 dX5_readAtom_217 (by decide) (fun _ => z_aload0 dX5_readAtom_222 (z_iload1 dX5_readAtom_223 (z_iload2 dX5_readAtom_224 (z_iload3 dX5_readAtom_225 (z_invV3 (md_X5_adds _) cv_X5_273 rfl dX5_readAtom_226 rfl (by decide) (Rm.sy (by omega) (by decide) rfl rfl) (M_adds hr4.1 h4s (by omega) (fun μ5 g1 g2 g3 g4 hD5 => ?_))))))) (fun c => absurd (hv0) c))))
          refine z_iconst (v := 1) dX5_readAtom_229 (by decide) (z_zreturn dX5_readAtom_230 rfl rfl (Nat.le_of_ble_eq_true rfl) (Nat.le_of_ble_eq_true rfl) ?_)
          have hq5 : ¬ SA s 50 0 5 ∧ ∀ j, ¬ SA s 53 0 j := ⟨fun q => by have := q.2; omega, fun j q => by have := q.2; omega⟩
          refine h3 μ5 ((hD04.mono fun _ _ _ q => SR_SQ q).tr (hD5.mono fun _ _ _ q => SA_SQ (Nat.le_refl _) q)) (hr4.dif hD5 ((hD5.2 _ _ _ (fun q => by have := q.2; omega)).trans hr4.2.2.1.1) hr4.2.2.1.2 hq5) ?_ g1 (stp.one g2 g3 g4)
          exact (hD5.2 _ _ _ (fun q => by have := q.2; omega)).trans ((k7 hD04).trans h7)
      have hM2 := hr2.1
      have pt : ∀ (x : Nat), c < e → (x = 1 ∨ x = 2) → PRES T e μ s d Q (match numP T e (c + 1) with | .inl y => .inl y | .inr q => .inr (q.1, [(nI f, nI x, q.2)])) →
          Z RX5 cX5_readAtom (4, some .boolean, [], false, rmm D 0 0) (Γ, C, μ0, ad, Q) 0 0 μ2 188 [some (vr 50 0), some (vi (nI f)), none, none] [vi (nI x)] := by
        intro x hce hx h3
        have hx0 : ¬ nI x ≤ 0 := nI_nle (by omega) (by omega)
        refine z_istore2 dX5_readAtom_188 (z_iload2 dX5_readAtom_189 (z_if_le 203 dX5_readAtom_190 (by decide) (fun c => absurd c (hx0)) (fun _ => z_aload0 dX5_readAtom_193 (z_dupa dX5_readAtom_194 (z_getI fl_X5_187 dX5_readAtom_195 rfl rfl (z_iconst (v := 1) dX5_readAtom_198 (by decide) (z_iadd dX5_readAtom_199 (z_putI fl_X5_187 dX5_readAtom_200 rfl rfl ⟨rfl, rfl⟩ ?_))))))))
        exact num x _ hx hce (hr2.dif (Dif.sI (S := SR) ⟨rfl, rfl, Or.inl rfl⟩) (by rw [gI_sI, if_pos ⟨rfl, rfl, rfl⟩, hr2.2.2.1.1, nI_1]) (by omega) nSR) (hD02.tr (Dif.sI ⟨rfl, rfl, Or.inl rfl⟩)) h3
      by_cases q60 : c < e ∧ T c = 60
      · rw [if_pos q60] at h
        refine z_aload0 dX5_readAtom_157 (z_bipush (v := 60) dX5_readAtom_158 (by decide) (z_bipush (v := 60) dX5_readAtom_160 (by decide) (z_invV2 (md_X5_isAt _) cv_X5_190 rfl dX5_readAtom_162 rfl (by decide) (Rm.sy (by omega) (by decide) rfl rfl) (M_isAt hr2 (z_if_eq 172 dX5_readAtom_165 (by decide) (fun c => absurd c ((by rw [decide_eq_true ⟨q60.1, rng1.mpr q60.2⟩]; exact n10))) (fun _ => z_iconst (v := 1) dX5_readAtom_168 (by decide) (z_goto 188 dX5_readAtom_169 (by decide) ?_)))))))
        exact pt 1 q60.1 (Or.inl rfl) h
      · rw [if_neg q60] at h
        by_cases q62 : c < e ∧ T c = 62
        · rw [if_pos q62] at h
          refine z_aload0 dX5_readAtom_157 (z_bipush (v := 60) dX5_readAtom_158 (by decide) (z_bipush (v := 60) dX5_readAtom_160 (by decide) (z_invV2 (md_X5_isAt _) cv_X5_190 rfl dX5_readAtom_162 rfl (by decide) (Rm.sy (by omega) (by decide) rfl rfl) (M_isAt hr2 (z_if_eq 172 dX5_readAtom_165 (by decide) (fun _ => z_aload0 dX5_readAtom_172 (z_bipush (v := 62) dX5_readAtom_173 (by decide) (z_bipush (v := 62) dX5_readAtom_175 (by decide) (z_invV2 (md_X5_isAt _) cv_X5_190 rfl dX5_readAtom_177 rfl (by decide) (Rm.sy (by omega) (by decide) rfl rfl) (M_isAt hr2 (z_if_eq 187 dX5_readAtom_180 (by decide) (fun c => absurd c ((by rw [decide_eq_true ⟨q62.1, rng1.mpr q62.2⟩]; exact n10))) (fun _ => z_iconst (v := 2) dX5_readAtom_183 (by decide) (z_goto 188 dX5_readAtom_184 (by decide) ?_)))))))) (fun c => absurd ((by rw [decide_eq_false (fun z => q60 ⟨z.1, rng1.mp z.2⟩)]; rfl)) c))))))
          exact pt 2 q62.1 (Or.inr rfl) h
        · rw [if_neg q62] at h
          refine z_aload0 dX5_readAtom_157 (z_bipush (v := 60) dX5_readAtom_158 (by decide) (z_bipush (v := 60) dX5_readAtom_160 (by decide) (z_invV2 (md_X5_isAt _) cv_X5_190 rfl dX5_readAtom_162 rfl (by decide) (Rm.sy (by omega) (by decide) rfl rfl) (M_isAt hr2 (z_if_eq 172 dX5_readAtom_165 (by decide) (fun _ => z_aload0 dX5_readAtom_172 (z_bipush (v := 62) dX5_readAtom_173 (by decide) (z_bipush (v := 62) dX5_readAtom_175 (by decide) (z_invV2 (md_X5_isAt _) cv_X5_190 rfl dX5_readAtom_177 rfl (by decide) (Rm.sy (by omega) (by decide) rfl rfl) (M_isAt hr2 (z_if_eq 187 dX5_readAtom_180 (by decide) (fun _ => z_iconst (v := 0) dX5_readAtom_187 (by decide) (z_istore2 dX5_readAtom_188 (z_iload2 dX5_readAtom_189 (z_if_le 203 dX5_readAtom_190 (by decide) (fun _ => z_iload2 dX5_readAtom_203 (z_if_le 214 dX5_readAtom_204 (by decide) (fun _ => z_iconst (v := 0) dX5_readAtom_214 (by decide) (z_istore3 dX5_readAtom_215 (z_iload3 dX5_readAtom_216 (z_if_ge 222 dX5_readAtom_217 (by decide) (fun _ => z_aload0 dX5_readAtom_222 (z_iload1 dX5_readAtom_223 (z_iload2 dX5_readAtom_224 (z_iload3 dX5_readAtom_225 (z_invV3 (md_X5_adds _) cv_X5_273 rfl dX5_readAtom_226 rfl (by decide) (Rm.sy (by omega) (by decide) rfl rfl) (M_adds hM2 n20 (by omega) (fun μ5 g1 g2 g3 g4 hD5 => ?_))))))) (fun c => absurd (Int32.le_refl _) c))))) (fun c => absurd (Int32.le_refl _) c))) (fun c => absurd (Int32.le_refl _) c))))) (fun c => absurd ((by rw [decide_eq_false (fun z => q62 ⟨z.1, rng1.mp z.2⟩)]; rfl)) c))))))) (fun c => absurd ((by rw [decide_eq_false (fun z => q60 ⟨z.1, rng1.mp z.2⟩)]; rfl)) c))))))
          refine z_iconst (v := 1) dX5_readAtom_229 (by decide) (z_zreturn dX5_readAtom_230 rfl rfl (Nat.le_of_ble_eq_true rfl) (Nat.le_of_ble_eq_true rfl) ?_)
          have hq5 : ¬ SA s 50 0 5 ∧ ∀ j, ¬ SA s 53 0 j := ⟨fun q => by have := q.2; omega, fun j q => by have := q.2; omega⟩
          refine h μ5 ((hD02.mono fun _ _ _ q => SR_SQ q).tr (hD5.mono fun _ _ _ q => SA_SQ (Nat.le_refl _) q)) (hr2.dif hD5 ((hD5.2 _ _ _ (fun q => by have := q.2; omega)).trans hr2.2.2.1.1) hr2.2.2.1.2 hq5) ?_ g1 (stp.one g2 g3 g4)
          exact (hD5.2 _ _ _ (fun q => by have := q.2; omega)).trans n7
  refine z_iconst (v := 0) dX5_readAtom_120 (by decide) (z_istore1 dX5_readAtom_121 ?_)
  have lp : ∀ k, k ≤ f → Z RX5 cX5_readAtom (4, some .boolean, [], false, rmm D 0 0) (Γ, C, μ0, ad, Q) 0 0 μ1 122 [some (vr 50 0), some (vi (nI k)), none, none] [] := by
    refine loopN (P := fun k => Z RX5 cX5_readAtom (4, some .boolean, [], false, rmm D 0 0) (Γ, C, μ0, ad, Q) 0 0 μ1 122 [some (vr 50 0), some (vi (nI k)), none, none] []) f ?_ ?_
    · by_cases q9 : f = 9
      · refine z_iload1 dX5_readAtom_122 (z_bipush (v := 9) dX5_readAtom_123 (by decide) (z_icmp_ge 145 dX5_readAtom_125 (by decide) (fun _ => ?_) (fun c => absurd ((by rw [q9]; exact Int32.le_refl _)) c)))
        exact found
      · have hw := fstW_is (T := T) b (wdE T e b) wFact (by omega)
        rw [hf] at hw
        refine z_iload1 dX5_readAtom_122 (z_bipush (v := 9) dX5_readAtom_123 (by decide) (z_icmp_ge 145 dX5_readAtom_125 (by decide) (fun c => absurd c (nI_ge (b := 9) (by omega) (by decide))) (fun _ => z_aload0 dX5_readAtom_128 (z_iload1 dX5_readAtom_129 (z_invS1 (md_X5_fact _) cs_X5_277 dX5_readAtom_130 rfl (by decide) (Rm.sy (by omega) (by decide) rfl rfl) (M_fact (by omega) (z_invV1 (md_X5_isWord _) cv_X5_213 rfl dX5_readAtom_133 rfl (by decide) (Rm.sy (by omega) (by decide) rfl rfl) (M_isWord (strB_f f (by omega)) hr1 hb1 w1 (z_if_ne 145 dX5_readAtom_136 (by decide) (fun _ => ?_) (fun c => absurd c ((by rw [hw]; exact n10))))))))))))
        exact found
    · intro k hk ih
      have hw := fstW_no (T := T) b (wdE T e b) wFact k (by omega)
      refine z_iload1 dX5_readAtom_122 (z_bipush (v := 9) dX5_readAtom_123 (by decide) (z_icmp_ge 145 dX5_readAtom_125 (by decide) (fun c => absurd c (nI_ge (b := 9) (by omega) (by decide))) (fun _ => z_aload0 dX5_readAtom_128 (z_iload1 dX5_readAtom_129 (z_invS1 (md_X5_fact _) cs_X5_277 dX5_readAtom_130 rfl (by decide) (Rm.sy (by omega) (by decide) rfl rfl) (M_fact (by omega) (z_invV1 (md_X5_isWord _) cv_X5_213 rfl dX5_readAtom_133 rfl (by decide) (Rm.sy (by omega) (by decide) rfl rfl) (M_isWord (strB_f k (by omega)) hr1 hb1 w1 (z_if_ne 145 dX5_readAtom_136 (by decide) (fun c => absurd ((by rw [hw]; rfl)) c) (fun _ => z_iinc1 dX5_readAtom_139 (inc1 k) (z_goto 122 dX5_readAtom_142 (by decide) ?_)))))))))))
      exact ih
  exact lp 0 (Nat.zero_le _)
end M15
