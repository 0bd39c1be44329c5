/-! rows over the old heap: String constants, static fields; a String's own calls -/
section ZO
variable {own : String} {cc : ByteArray} {mm : MM} {E : Ex} {k n : Nat} {μ μ' : Mem} {pc : Nat} {ls : List (Option AV)} {st : List AV} {ad ad' : Ad} {H H' : Heap} {locs : List Loc} {la : Array Slot} {Γ : Gx} {p i : Nat}
theorem strB_lt {i : Nat} {b : List Int32} (h : strB[i]? = some b) : i < 54 := by
  have h2 := (List.getElem?_eq_some_iff.mp h).1
  have e : strB.length = 54 := by decide +kernel
  omega
theorem Hy.sg (h : Hy own cc mm E μ ls st ad H locs la) {i : Nat} {b : List Int32} (hb : strB[i]? = some b) : ∃ q, strL[i]? = some q ∧ strOK E.1 i q.1 q.2.1 q.2.2 b (cS E) := by
  have hi := strB_lt hb
  have e : strL.length = 54 := by decide +kernel
  have hq : strL[i]? = some (strL[i]'(by omega)) := List.getElem?_eq_getElem _
  exact ⟨_, hq, h.kk.2.2.1.1 i _ b hq hb⟩
theorem Hy.old (h : Hy own cc mm E μ ls st ad H locs la) : ∀ a : Nat, a < (gH E.1).size → ¬ nA a → H[a]? = (gH E.1)[a]? := fun a ha _ => h.rel.1.1 a ha
theorem Hy.g0 (h : Hy own cc mm E μ ls st ad H locs la) : 108 ≤ gC μ 0 := by rw [h.rel.2.1.1]; exact h.kk.2.2.1.2.2.2.2.2.1
theorem Hy.adK (h : Hy own cc mm E μ ls st ad H locs la) {i : Nat} (hi : i < 54) : ad 0 i = E.1.2.2.2.1 i := by rw [h.rel.2.1.2]; unfold ad0; rw [if_pos hi]
theorem Hy.adV (h : Hy own cc mm E μ ls st ad H locs la) {i : Nat} (hi : i < 54) : ad 0 (54 + i) = E.1.2.2.2.2 i := by
  rw [h.rel.2.1.2]; unfold ad0
  rw [if_neg (by omega), if_pos (by omega), show 54 + i - 54 = i by omega]
theorem Hy.adO (h : Hy own cc mm E μ ls st ad H locs la) (a : Nat) : ad 0 (108 + a) = a := by
  rw [h.rel.2.1.2]; unfold ad0
  rw [if_neg (by omega), if_neg (by omega)]; omega
theorem Hy.l0 (h : Hy own cc mm E μ ls st ad H locs la) {i : Nat} (hi : i < 108) : LvV μ (vr 0 i) := Nat.lt_of_lt_of_le hi h.g0
theorem z_ldcS {idx : Nat} {tx : String} (i : Nat) (hs : strL[i]? = some (own, idx, tx)) (hd : decode cc pc = .ok (.ldc idx, 2)) (kk : Z own cc mm E k n μ (pc + 2) ls (vr 0 i :: st)) : Z own cc mm E k n μ pc ls st := by
  intro ad H locs la h
  have e : strL.length = 54 := by decide +kernel
  have e2 : strB.length = 54 := by decide +kernel
  have hi : i < 54 := by have := (List.getElem?_eq_some_iff.mp hs).1; omega
  have hb : strB[i]? = some (strB[i]'(by omega)) := List.getElem?_eq_getElem _
  obtain ⟨a1, -⟩ := h.kk.2.2.1.1 i _ _ hs hb
  have kk' := kk ad H locs la (h.stk (LvL.cons (h.l0 (by omega)) h.lst))
  have ev : cv ad (vr 0 i) = .ref (E.1.2.2.2.1 i) := by show Value.ref (ad 0 i) = _; rw [h.adK hi]
  rw [List.map_cons, ev] at kk'
  exact va_ldcS h.ex h.bs h.ow a1 hd kk'
theorem z_strV {idx i : Nat} {b : List Int32} (hb : strB[i]? = some b) (hl : Cond.fieldLink own idx "java/lang/String" "value" "[B" ∈ lw_all) (hd : decode cc pc = .ok (.getfield idx, 3)) (kk : Z own cc mm E k n μ (pc + 3) ls (vr 0 (54 + i) :: st)) : Z own cc mm E k n μ pc ls (vr 0 i :: st) := by
  intro ad H locs la h
  have hi := strB_lt hb
  obtain ⟨q, -, -, -, -, a4, -⟩ := h.sg hb
  obtain ⟨cf, k', fi, f, cell, h1, h2, h3, h4, h5, h6⟩ := va_OF.kept a4 h.old
  have kk' := kk ad H locs la (h.stk (LvL.cons (h.l0 (by omega)) h.lst.tl))
  have ev : cv ad (vr 0 (54 + i)) = .ref (E.1.2.2.2.2 i) := by show Value.ref (ad 0 (54 + i)) = _; rw [h.adV hi]
  have ek : cv ad (vr 0 i) = .ref (E.1.2.2.2.1 i) := by show Value.ref (ad 0 i) = _; rw [h.adK hi]
  rw [List.map_cons, ev] at kk'
  rw [List.map_cons, ek]
  exact W.getf h.ex h.bs h.ow (h.kk.1.all hl _) h1 h2 h3 h4 h5 rfl rfl hd kk'
theorem z_strC {idx i : Nat} {b : List Int32} (hb : strB[i]? = some b) (hl : Cond.fieldLink own idx "java/lang/String" "coder" "B" ∈ lw_all) (hd : decode cc pc = .ok (.getfield idx, 3)) (kk : Z own cc mm E k n μ (pc + 3) ls (vi 0 :: st)) : Z own cc mm E k n μ pc ls (vr 0 i :: st) := by
  intro ad H locs la h
  have hi := strB_lt hb
  obtain ⟨q, -, -, -, a3, -, -⟩ := h.sg hb
  obtain ⟨cf, k', fi, f, cell, h1, h2, h3, h4, h5, h6⟩ := va_OF.kept a3 h.old
  have kk' := kk ad H locs la (h.stk (LvL.i h.lst.tl))
  have ek : cv ad (vr 0 i) = .ref (E.1.2.2.2.1 i) := by show Value.ref (ad 0 i) = _; rw [h.adK hi]
  rw [List.map_cons] at kk'
  rw [List.map_cons, ek]
  exact W.getf h.ex h.bs h.ow (h.kk.1.all hl _) h1 h2 h3 h4 h5 rfl rfl hd kk'
theorem z_slen {i : Nat} {b : List Int32} (hb : strB[i]? = some b) (hd : decode cc pc = .ok (.arraylength, 1)) (kk : Z own cc mm E k n μ (pc + 1) ls (vi (nI b.length) :: st)) : Z own cc mm E k n μ pc ls (vr 0 (54 + i) :: st) := by
  intro ad H locs la h
  have hi := strB_lt hb
  obtain ⟨q, -, -, -, -, -, a5⟩ := h.sg hb
  obtain ⟨cell, h1, h2, h3, h4, h5, h6, h7⟩ := va_T.kept a5 h.old
  have kk' := kk ad H locs la (h.stk (LvL.i h.lst.tl))
  have ev : cv ad (vr 0 (54 + i)) = .ref (E.1.2.2.2.2 i) := by show Value.ref (ad 0 (54 + i)) = _; rw [h.adV hi]
  rw [List.map_cons] at kk'
  rw [List.map_cons, ev]
  exact W.alen h.ex h.bs h1 h2 h5 rfl rfl hd kk'
theorem z_sbald {i j : Nat} {x : Int32} {b : List Int32} (hb : strB[i]? = some b) (hd : decode cc pc = .ok (.baload, 1)) (hx : x = nI j) (hj : j < b.length) (kk : Z own cc mm E k n μ (pc + 1) ls (vi (b.getD j 0) :: st)) : Z own cc mm E k n μ pc ls (vi x :: vr 0 (54 + i) :: st) := by
  intro ad H locs la h
  have hi := strB_lt hb
  obtain ⟨q, -, -, -, -, -, a5⟩ := h.sg hb
  obtain ⟨cell, h1, h2, h3, h4, h5, h6, h7⟩ := va_T.kept a5 h.old
  have hb8 : b.length < 100 := by
    have : ∀ c ∈ strB, c.length < 100 := by decide +kernel
    exact this b (List.mem_of_getElem? hb)
  have kk' := kk ad H locs la (h.stk (LvL.i h.lst.tl.tl))
  have ev : cv ad (vr 0 (54 + i)) = .ref (E.1.2.2.2.2 i) := by show Value.ref (ad 0 (54 + i)) = _; rw [h.adV hi]
  have ec : x.toNatClampNeg = j := by rw [hx]; exact nI_clamp (by omega)
  rw [List.map_cons] at kk'
  rw [List.map_cons, List.map_cons, ev]
  refine W.bald h.ex h.bs h1 h2 h3 (j := x) ?_ (v := .int (b.getD j 0)) (by rw [ec]; exact h6 j hj) rfl rfl hd kk'
  rintro (q | q)
  · rw [hx] at q; exact nI_pos (by omega) q
  · rw [ec] at q; omega
theorem z_gstC {idx : Nat} (hl : Cond.fieldLink own idx "java/lang/String" "COMPACT_STRINGS" "Z" ∈ lw_all) (hd : decode cc pc = .ok (.getstatic idx, 3)) (kk : Z own cc mm E k n μ (pc + 3) ls (vi 1 :: st)) : Z own cc mm E k n μ pc ls st := by
  intro ad H locs la h
  obtain ⟨cf, kf, fi, f, a, cell, h1, h2, h3, h4, h5, h6, h7, h8⟩ := va_Z.kept h.kk.2.2.1.2.1 h.old
  have kk' := kk ad H locs la (h.stk (LvL.i h.lst))
  exact W.gets h.ex h.bs h.ow (h.kk.1.all hl _) h1 h2 h3 h4 h5 (fun e => by rw [e] at h6; cases h6) h7 rfl hd kk'
theorem z_gstR {idx : Nat} {C nm d : String} (hs : ∀ U, SX E.1 U → stRef E.1 C nm d U) (hl : Cond.fieldLink own idx C nm d ∈ lw_all) (hd : decode cc pc = .ok (.getstatic idx, 3)) (kk : ∀ r, Z own cc mm E k n μ (pc + 3) ls (vo r :: st)) : Z own cc mm E k n μ pc ls st := by
  intro ad H locs la h
  obtain ⟨r, hr, hz⟩ := hs _ h.kk.2.2.1
  obtain ⟨cf, kf, fi, f, a, cell, h1, h2, h3, h4, h5, h6, h7, h8⟩ := va_Z.kept hz h.old
  have hlv : LvV μ (vo (r.map (fun a => (0, 108 + a)))) := by
    cases r with
    | none => trivial
    | some a =>
      show 108 + a < gC μ 0
      rw [h.rel.2.1.1]
      have := hr a rfl
      omega
  have kk' := kk (r.map (fun a => (0, 108 + a))) ad H locs la (h.stk (LvL.cons hlv h.lst))
  have ev : cv ad (vo (r.map (fun a => (0, 108 + a)))) = va_rf r := by
    cases r with
    | none => rfl
    | some a => show Value.ref (ad 0 (108 + a)) = _; rw [h.adO]; rfl
  rw [List.map_cons, ev] at kk'
  exact W.gets h.ex h.bs h.ow (h.kk.1.all hl _) h1 h2 h3 h4 h5 (fun e => by rw [e] at h6; cases h6) h7 rfl hd kk'
/-- a String constant's own method -/
def CZ (own : String) (idx : Nat) (y : MethodName) (np : Nat) : Prop := Cond.methodLink own idx y ∈ lw_all ∧ Cond.instanceMethod y ∈ lw_all ∧ Cond.selects "java/lang/String" y y ∈ lw_all ∧ (parseMethodDescriptor y.desc).map (fun d => d.parameters.length) = some np
theorem z_invZ {as st0 : List AV} {idx i : Nat} {b : List Int32} {y : MethodName} {cc' : ByteArray} {mm' : MM} (hb : strB[i]? = some b) (hMD : MD y cc' mm') (hcv : CZ own idx y as.length) (hd : decode cc pc = .ok (.invokevirtual idx, 3)) (hcat : as.all isC1 = true) (hlen : as.length + 1 ≤ mm'.1) (hrm : Rm mm mm' k n st.length) (hst : st0 = as.reverse ++ vr 0 i :: st)
    (hct : Ct y.cls cc' mm' (vr 0 i :: as) μ (Kon own cc mm E (k + mm'.2.2.2.2.cells) (n + mm'.2.2.2.2.slots) (pc + 3) ls st (fun x μ' => Unc mm pc ∧ eQ E (.inr x) μ'))) : Z own cc mm E k n μ pc ls st0 := by
  subst hst
  intro ad H locs la h
  have hX : XW (cS E) := h.kk.1
  obtain ⟨w1, w2, w3, w4⟩ := hcv
  have hr : LvV μ (vr 0 i) := h.lst _ (List.mem_append_right _ List.mem_cons_self)
  have hs2 : LvL μ st := fun v hv => h.lst v (List.mem_append_right _ (List.mem_cons_of_mem _ hv))
  have has : LvL μ as := fun v hv => h.lst v (List.mem_append_left _ (List.mem_reverse.mpr hv))
  obtain ⟨mk, methM, hnamed, hmethM, hstM, habM⟩ := Cond.instanceMethod_spec (hX.all w2 (cAr E))
  refine z_callG h hs2 (LvL.cons hr has) (by show (true && as.all isC1) = true; rw [hcat]; rfl) hMD hnamed hlen hrm hd hct fun T hT X => ?_
  obtain ⟨mk', methk, ck, hn', hm', -, -, -, -, -, -, hsig⟩ := hMD.at hX
  cases hnamed.symm.trans hn'
  cases hmethM.symm.trans hm'
  have hi := strB_lt hb
  obtain ⟨q0, -, -, a2, -⟩ := h.sg hb
  obtain ⟨cell, g1, g3, hcls, -⟩ := va_O.kept a2 h.old
  have g1' : H[ad 0 i]? = some cell := by rw [h.adK hi]; exact g1
  obtain ⟨c2, r2, m2, q1, q2, q3, q4, kP, hkP, hkPi⟩ := Cond.selects_spec (hX.all w3 (cAr E))
  cases hcls.symm.trans q1
  cases (State.methodFound?_of_named hnamed hMD.2.2.1).symm.trans q2
  cases hnamed.symm.trans q3
  have hselP : selectMethod (cEn E).platform (cS E).vm cell.cls mk = .method mk := by rw [Launch.admits_selectMethod X.admits]; exact q4
  rw [hsig] at w4
  have hl : (as.map (cv ad)).length = methM.sig.parameters.length := by rw [List.length_map]; exact (Option.some.inj w4).symm
  exact X.invokevirtual h.ex h.ow (hX.all w1 _) hnamed hmethM hstM hkP hkPi hMD.2.2.1 (a := ad 0 i) (cell := cell) (by rw [hT]; exact g1') (VmData.ne_statics_of g3) hselP hmethM habM hkP hkPi (g := F0 (cM E) pc la ((as.reverse ++ vr 0 i :: st).map (cv ad))) rfl (argsL := as.map (cv ad)) (rest := st.map (cv ad)) hl
    (by show (as.reverse ++ vr 0 i :: st).map (cv ad) = _; rw [List.map_append, List.map_reverse]; rfl) (by rw [h.bs]; exact hd)
theorem z_invZ0 {idx i : Nat} {b : List Int32} {y : MethodName} {cc' : ByteArray} {mm' : MM} (hb : strB[i]? = some b) (hMD : MD y cc' mm') (hcv : CZ own idx y 0) (hd : decode cc pc = .ok (.invokevirtual idx, 3)) (hlen : 1 ≤ mm'.1) (hrm : Rm mm mm' k n st.length) (hct : Ct y.cls cc' mm' (vr 0 i :: []) μ (Kon own cc mm E (k + mm'.2.2.2.2.cells) (n + mm'.2.2.2.2.slots) (pc + 3) ls st (fun x μ' => Unc mm pc ∧ eQ E (.inr x) μ'))) : Z own cc mm E k n μ pc ls (vr 0 i :: st) := z_invZ (as := []) hb hMD hcv hd rfl hlen hrm rfl hct
theorem z_invZ1 {idx i : Nat} {x : Int32} {b : List Int32} {y : MethodName} {cc' : ByteArray} {mm' : MM} (hb : strB[i]? = some b) (hMD : MD y cc' mm') (hcv : CZ own idx y 1) (hd : decode cc pc = .ok (.invokevirtual idx, 3)) (hlen : 2 ≤ mm'.1) (hrm : Rm mm mm' k n st.length) (hct : Ct y.cls cc' mm' (vr 0 i :: [vi x]) μ (Kon own cc mm E (k + mm'.2.2.2.2.cells) (n + mm'.2.2.2.2.slots) (pc + 3) ls st (fun x μ' => Unc mm pc ∧ eQ E (.inr x) μ'))) : Z own cc mm E k n μ pc ls (vi x :: vr 0 i :: st) := z_invZ (as := [vi x]) hb hMD hcv hd rfl hlen hrm rfl hct
end ZO
