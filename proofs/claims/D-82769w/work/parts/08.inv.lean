/-! call rows -/
section ZI
variable {own : String} {cc : ByteArray} {mm : MM} {E : Ex} {k n : Nat} {μ μ' : Mem} {pc : Nat} {ls : List (Option AV)} {st st' : List AV} {ad ad' : Ad} {H H' : Heap} {locs L : List Loc} {la : Array Slot} {Γ : Gx} {p i : Nat}
theorem Xt.val {v : AV} (h : Xt μ ad ad') (hv : LvV μ v) : cv ad' v = cv ad v := by
  match v, hv with
  | .inl _, _ => rfl
  | .inr (.inl none), _ => rfl
  | .inr (.inl (some r)), hv => show Value.ref _ = Value.ref _; rw [h r.1 r.2 hv]
  | .inr (.inr _), _ => rfl
theorem Xt.lst (h : Xt μ ad ad') (hs : LvL μ st) : st.map (cv ad') = st.map (cv ad) := List.map_congr_left fun v hv => h.val (hs v hv)
theorem Hy.ret (h : Hy own cc mm E μ ls st ad H locs la) (hL : ∀ q ∈ L, (gH E.1).size ≤ q.base) (hR : Rel E.1 ad' μ' H') (hX : Xt μ ad ad') (hM : Mn μ μ') (hs : LvL μ' st') : Hy own cc mm E μ' ls st' ad' H' (locs ++ L) la := by
  refine ⟨h.1, ⟨h.2.1.1.tr hM, fun p i hi => ?_⟩, fun q hq => ?_, hR, h.lo.mn hM, hs, h.lc.1, h.lc.2.1, fun j v hj => ?_⟩
  · rw [hX p i (Nat.lt_of_lt_of_le hi (h.2.1.1 p))]
    exact h.2.1.2 p i hi
  · rcases List.mem_append.mp hq with e | e
    · exact h.2.2.1 q e
    · exact hL q e
  · rw [hX.val (h.lo.at hj)]
    exact h.lc.2.2 j v hj
/-- what follows a call: it came back with nothing, with a value; it threw -/
abbrev Kon (own : String) (cc : ByteArray) (mm : MM) (E : Ex) (k n pc : Nat) (ls : List (Option AV)) (st : List AV) (hx : Nat × Nat → Mem → Prop) : Res → Mem → Prop := fun r μ' => match r with
  | .inl none => Z own cc mm E k n μ' pc ls st
  | .inl (some v) => Z own cc mm E k n μ' pc ls (v :: st)
  | .inr h => hx h μ'
/-- the callee's room fits -/
def Rm (mm mm' : MM) (k n L : Nat) : Prop := mm'.2.2.2.2.frames + 1 ≤ mm.2.2.2.2.frames ∧ 2 * L + (mm'.1 + 11) + mm'.2.2.2.2.locals ≤ mm.2.2.2.2.locals ∧ k + mm'.2.2.2.2.cells ≤ mm.2.2.2.2.cells ∧ n + mm'.2.2.2.2.slots ≤ mm.2.2.2.2.slots
def isC1 : AV → Bool
  | .inr (.inr _) => false
  | _ => true
theorem catOK_of {as : List AV} (h : as.all isC1 = true) : catOK as := fun v hv ad => by
  have h1 := List.all_eq_true.mp h v hv
  match v, h1 with
  | .inl _, _ => rfl
  | .inr (.inl r), _ => exact cat_vo r
theorem cat_sum (vs : List Value) : (vs.map fun v => v.category).sum ≤ 2 * vs.length := by
  induction vs with
  | nil => exact Nat.le_refl _
  | cons v t ih =>
    rw [List.map_cons, List.sum_cons, List.length_cons]
    rcases lv_cat v with e | e <;> omega
theorem z_callG {mk : MethodId} {as st0 : List AV} {y : MethodName} {cc' : ByteArray} {mm' : MM} (h : Hy own cc mm E μ ls st0 ad H locs la) (hlst : LvL μ st) (hlv : LvL μ as) (hcat : as.all isC1 = true) (hMD : MD y cc' mm') (hn : (cS E).methodNamed? y = some mk) (hlen : as.length ≤ mm'.1) (hrm : Rm mm mm' k n st.length) {ig : Instr} (hd : decode cc pc = .ok (ig, 3))
    (hct : Ct y.cls cc' mm' as μ (Kon own cc mm E (k + mm'.2.2.2.2.cells) (n + mm'.2.2.2.2.slots) (pc + 3) ls st (fun x μ' => Unc mm pc ∧ eQ E (.inr x) μ'))) {gf : JFrame}
    (hstep : ∀ T : State, T.heap = H → Stand (cP E) (cLa E) (cEn E) (cR E) (cS E) (cM E) (cAr E) (cB E) (cMe E) (cC E) T locs k n → ∃ vm', Stand (cP E) (cLa E) (cEn E) (cR E) (cS E) (cM E) (cAr E) (cB E) (cMe E) (cC E) (T.setVm vm') locs k n ∧
      ∀ target, (∀ acts, Steps (cP E).tables (cEn E) (cB E) (doInvoke (cEn E) ((T.setVm vm').setTop (F0 (cM E) pc la (st.map (cv ad)))) acts mk (as.map (cv ad)).toArray).1 target) → Steps (cP E).tables (cEn E) (cB E) (T.setTop gf) target) : Wc E H locs k n gf := by
  intro T hT X
  obtain ⟨vm', X1, s1⟩ := hstep T hT X
  obtain ⟨T', L, r, μ', ad', X', hL, hR, hXt, hMn, hQ, hW, hm⟩ := call_core h (T := T.setVm vm') hT X1 (g := F0 (cM E) pc la (st.map (cv ad))) rfl (h.lc.1.1.trans h.1.2.2.2.1.symm) (by rw [h.bs]; exact hd) hMD hn hlv (catOK_of hcat) hlen hrm.1
    (by
      have := cat_sum (st.map (cv ad))
      have h2 := hrm.2.1
      rw [List.length_map] at this
      show 2 * 0 + ((st.map (cv ad)).map fun v => v.category).sum + _ + _ ≤ _
      omega) hrm.2.2.1 hrm.2.2.2 hct
  have hs' : LvL μ' st := hlst.mn hMn
  match r, hQ, hm with
  | .inl none, hQ, hm =>
    obtain ⟨t, a, b⟩ := hQ ad' T'.heap (locs ++ L) la (h.ret hL hR hXt hMn hs') T' rfl X'
    refine ⟨t, s1 t (fun acts => hm.2 t acts ?_), b⟩
    rw [hXt.lst hlst] at a
    exact a
  | .inl (some v), hQ, hm =>
    obtain ⟨t, a, b⟩ := hQ ad' T'.heap (locs ++ L) la (h.ret hL hR hXt hMn (LvL.cons (hm.1 v rfl) hs')) T' rfl X'
    refine ⟨t, s1 t (fun acts => hm.2 t acts ?_), b⟩
    rw [List.map_cons, hXt.lst hlst] at a
    exact a
  | .inr x, hQ, hm =>
    obtain ⟨b1, b2, b3, b4, b5⟩ := X'.leaveThrown (ad' x.1 x.2) (g := F0 (cM E) pc la (st.map (cv ad))) rfl rfl rfl (h.unc hQ.1) h.lk
    have hH := h.ret (st' := st) hL hR hXt hMn hs'
    refine ⟨_, s1 _ (fun acts => hm.2 _ acts b1), .threw (ad' x.1 x.2), locs ++ L, b2, b3, b4, b5.mono (by rw [h.rm]; exact hrm.2.2.1) (by rw [h.rm]; exact hrm.2.2.2), hH.2.2.1, .inr x, μ', ad', hR, hH.2.1.2, hH.2.1.1, ⟨rfl, hm.1⟩, hQ.2⟩
/-- a static call -/
def CS (own : String) (idx : Nat) (y : MethodName) (np : Nat) : Prop := Cond.methodLink own idx y ∈ lw_all ∧ Cond.static y ∈ lw_all ∧ Cond.initialized y.cls ∈ lw_all ∧ (parseMethodDescriptor y.desc).map (fun d => d.parameters.length) = some np
theorem z_invS {as st0 : List AV} {idx : Nat} {y : MethodName} {cc' : ByteArray} {mm' : MM} (hMD : MD y cc' mm') (hcs : CS own idx y as.length) (hd : decode cc pc = .ok (.invokestatic idx, 3)) (hcat : as.all isC1 = true) (hlen : as.length ≤ mm'.1) (hrm : Rm mm mm' k n st.length) (hst : st0 = as.reverse ++ st)
    (hct : Ct y.cls cc' mm' as μ (Kon own cc mm E (k + mm'.2.2.2.2.cells) (n + mm'.2.2.2.2.slots) (pc + 3) ls st (fun x μ' => Unc mm pc ∧ eQ E (.inr x) μ'))) : Z own cc mm E k n μ pc ls st0 := by
  subst hst
  intro ad H locs la h
  have hX : XW (cS E) := h.kk.1
  obtain ⟨w1, w2, w3, w4⟩ := hcs
  obtain ⟨mk, methk, ck, hn, hm, -, -, -, -, -, -, hsig⟩ := hMD.at hX
  refine z_callG h (fun v hv => h.lst v (List.mem_append_right _ hv)) (fun v hv => h.lst v (List.mem_append_left _ (List.mem_reverse.mpr hv))) hcat hMD hn hlen hrm hd hct fun T hT X => ?_
  have hstatic : methk.isStatic = true := Cond.static_spec hn hm (hX.all w2 (cAr E))
  obtain ⟨kP, hkP, -⟩ := className_of_methodNamed hn
  have hinitP : kP.init = .initialized := Cond.initialized_spec (findClass_of_methodNamed hn) hkP (hX.all w3 (cAr E))
  rw [hsig] at w4
  have hl : (as.map (cv ad)).length = methk.sig.parameters.length := by rw [List.length_map]; exact (Option.some.inj w4).symm
  exact X.invokestatic h.ex h.ow (hX.all w1 _) hn hm hstatic hkP hinitP hMD.2.2.1 (g := F0 (cM E) pc la ((as.reverse ++ st).map (cv ad))) rfl (argsL := as.map (cv ad)) (rest := st.map (cv ad)) hl (by show (as.reverse ++ st).map (cv ad) = _; rw [List.map_append, List.map_reverse]) (by rw [h.bs]; exact hd)
/-- a call through an object of a class: the method named is the method run -/
def CV (own : String) (idx ci : Nat) (y : MethodName) (np : Nat) : Prop := ∃ r, cl[ci]? = some r ∧ Cond.methodLink own idx y ∈ lw_all ∧ Cond.instanceMethod y ∈ lw_all ∧ Cond.selects r.1 y y ∈ lw_all ∧ (parseMethodDescriptor y.desc).map (fun d => d.parameters.length) = some np
theorem z_invV {as st0 : List AV} {idx ci : Nat} {y : MethodName} {cc' : ByteArray} {mm' : MM} (hMD : MD y cc' mm') (hcv : CV own idx ci y as.length) (hp : kd p = .inl ci) (hd : decode cc pc = .ok (.invokevirtual idx, 3)) (hcat : as.all isC1 = true) (hlen : as.length + 1 ≤ mm'.1) (hrm : Rm mm mm' k n st.length) (hst : st0 = as.reverse ++ vr p i :: st)
    (hct : Ct y.cls cc' mm' (vr p i :: as) μ (Kon own cc mm E (k + mm'.2.2.2.2.cells) (n + mm'.2.2.2.2.slots) (pc + 3) ls st (fun x μ' => Unc mm pc ∧ eQ E (.inr x) μ'))) : Z own cc mm E k n μ pc ls st0 := by
  subst hst
  intro ad H locs la h
  have hX : XW (cS E) := h.kk.1
  obtain ⟨r, hc, w1, w2, w3, w4⟩ := hcv
  have hr : LvV μ (vr p i) := h.lst _ (List.mem_append_right _ List.mem_cons_self)
  have hs2 : LvL μ st := fun v hv => h.lst v (List.mem_append_right _ (List.mem_cons_of_mem _ hv))
  have has : LvL μ as := fun v hv => h.lst v (List.mem_append_left _ (List.mem_reverse.mpr hv))
  obtain ⟨mk, methM, hnamed, hmethM, hstM, habM⟩ := Cond.instanceMethod_spec (hX.all w2 (cAr E))
  refine z_callG h hs2 (LvL.cons hr has) (by show (true && as.all isC1) = true; rw [hcat]; rfl) hMD hnamed hlen hrm hd hct fun T hT X => ?_
  obtain ⟨mk', methk, ck, hn', hm', -, -, -, -, -, -, hsig⟩ := hMD.at hX
  cases hnamed.symm.trans hn'
  cases hmethM.symm.trans hm'
  obtain ⟨⟨cell, g1, g2, g3, -⟩, -⟩ := h.rel.obj hr hp hc
  have hcls : (cS E).vm.findClass r.1 = some cell.cls := by rw [g2]; exact (h.kk.2.1.1 ci r hc).2.1
  obtain ⟨c2, r2, m2, q1, q2, q3, q4, kP, hkP, hkPi⟩ := Cond.selects_spec (hX.all w3 (cAr E))
  cases hcls.symm.trans q1
  cases (State.methodFound?_of_named hnamed hMD.2.2.1).symm.trans q2
  cases hnamed.symm.trans q3
  have hselP : selectMethod (cEn E).platform (cS E).vm cell.cls mk = .method mk := by rw [Launch.admits_selectMethod X.admits]; exact q4
  rw [hsig] at w4
  have hl : (as.map (cv ad)).length = methM.sig.parameters.length := by rw [List.length_map]; exact (Option.some.inj w4).symm
  exact X.invokevirtual h.ex h.ow (hX.all w1 _) hnamed hmethM hstM hkP hkPi hMD.2.2.1 (a := ad p i) (cell := cell) (by rw [hT]; exact g1) (fun z q => by rw [g3] at q; cases q) hselP hmethM habM hkP hkPi (g := F0 (cM E) pc la ((as.reverse ++ vr p i :: st).map (cv ad))) rfl (argsL := as.map (cv ad)) (rest := st.map (cv ad)) hl
    (by show (as.reverse ++ vr p i :: st).map (cv ad) = _; rw [List.map_append, List.map_reverse]; rfl) (by rw [h.bs]; exact hd)
/-- a call through an object whose method is named in an abstract class above it -/
def CU (own : String) (idx ci : Nat) (x y : MethodName) (np : Nat) : Prop := ∃ r, cl[ci]? = some r ∧ Cond.methodLink own idx x ∈ lw_all ∧ Cond.sameMethod x.cls x.cls x.name x.desc ∈ lw_all ∧ Cond.declares x ∈ lw_tbl ∧ Cond.instanceMethod y ∈ lw_all ∧ Cond.selects r.1 x y ∈ lw_all ∧ (x.cls ≠ "java/lang/invoke/MethodHandle" ∧ x.cls ≠ "java/lang/invoke/VarHandle") ∧ (parseMethodDescriptor x.desc).map (fun d => d.parameters.length) = some np
theorem z_invU {as st0 : List AV} {idx ci : Nat} {x y : MethodName} {cc' : ByteArray} {mm' : MM} (hMD : MD y cc' mm') (hcv : CU own idx ci x y as.length) (hp : kd p = .inl ci) (hd : decode cc pc = .ok (.invokevirtual idx, 3)) (hcat : as.all isC1 = true) (hlen : as.length + 1 ≤ mm'.1) (hrm : Rm mm mm' k n st.length) (hst : st0 = as.reverse ++ vr p i :: st)
    (hct : Ct y.cls cc' mm' (vr p i :: as) μ (Kon own cc mm E (k + mm'.2.2.2.2.cells) (n + mm'.2.2.2.2.slots) (pc + 3) ls st (fun x μ' => Unc mm pc ∧ eQ E (.inr x) μ'))) : Z own cc mm E k n μ pc ls st0 := by
  subst hst
  intro ad H locs la h
  have hX : XW (cS E) := h.kk.1
  obtain ⟨r, hc, w1, w2, w3, w4, w5, w6, w7⟩ := hcv
  have hr : LvV μ (vr p i) := h.lst _ (List.mem_append_right _ List.mem_cons_self)
  have hs2 : LvL μ st := fun v hv => h.lst v (List.mem_append_right _ (List.mem_cons_of_mem _ hv))
  have has : LvL μ as := fun v hv => h.lst v (List.mem_append_left _ (List.mem_reverse.mpr hv))
  obtain ⟨mk, methM, hnamed, hmethM, hstM, habM⟩ := Cond.instanceMethod_spec (hX.all w4 (cAr E))
  refine z_callG h hs2 (LvL.cons hr has) (by show (true && as.all isC1) = true; rw [hcat]; rfl) hMD hnamed hlen hrm hd hct fun T hT X => ?_
  obtain ⟨⟨cell, g1, g2, g3, -⟩, -⟩ := h.rel.obj hr hp hc
  have hcls : (cS E).vm.findClass r.1 = some cell.cls := by rw [g2]; exact (h.kk.2.1.1 ci r hc).2.1
  obtain ⟨r0, r1, hn, hrmm, hstR, hsigR⟩ := va_Decl.abs (hX.1 _ w3 rfl #[])
  have hsame := hX.all w2 (cAr E)
  obtain ⟨cn, ck, r1', hcn, hck, hni, hf, hn1⟩ := Cond.sameMethod_found hsame
  cases hn.symm.trans hn1
  obtain ⟨c2, r2, m2, q1, q2, q3, q4, kP, hkP, hkPi⟩ := Cond.selects_spec (hX.all w5 (cAr E))
  cases hcls.symm.trans q1
  cases hf.symm.trans q2
  cases hnamed.symm.trans q3
  have hselP : selectMethod (cEn E).platform (cS E).vm cell.cls r0 = .method mk := by rw [Launch.admits_selectMethod X.admits]; exact q4
  rw [hsigR] at w7
  have hl : (as.map (cv ad)).length = r1.sig.parameters.length := by rw [List.length_map]; exact (Option.some.inj w7).symm
  exact X.invokevirtualUp h.ex h.ow (hX.all w1 _) hsame w6 hn hrmm hstR (a := ad p i) (cell := cell) (by rw [hT]; exact g1) (fun z q => by rw [g3] at q; cases q) hselP hmethM habM hkP hkPi (g := F0 (cM E) pc la ((as.reverse ++ vr p i :: st).map (cv ad))) rfl (argsL := as.map (cv ad)) (rest := st.map (cv ad)) hl
    (by show (as.reverse ++ vr p i :: st).map (cv ad) = _; rw [List.map_append, List.map_reverse]; rfl) (by rw [h.bs]; exact hd)
/-- a constructor's call -/
def CI (own : String) (idx : Nat) (y : MethodName) (np : Nat) : Prop := (Cond.methodLink own idx y ∈ lw_all ∨ ∃ host, Cond.methodLinkNest own idx y host ∈ lw_tbl) ∧ Cond.instanceMethod y ∈ lw_all ∧ y.name = "<init>" ∧ (∃ b L, Cond.code y b L none ∈ lw_all) ∧ (parseMethodDescriptor y.desc).map (fun d => d.parameters.length) = some np
theorem z_invI {as st0 : List AV} {idx : Nat} {y : MethodName} {cc' : ByteArray} {mm' : MM} (hMD : MD y cc' mm') (hcv : CI own idx y as.length) (hd : decode cc pc = .ok (.invokespecial idx, 3)) (hcat : as.all isC1 = true) (hlen : as.length + 1 ≤ mm'.1) (hrm : Rm mm mm' k n st.length) (hst : st0 = as.reverse ++ vr p i :: st)
    (hct : Ct y.cls cc' mm' (vr p i :: as) μ (Kon own cc mm E (k + mm'.2.2.2.2.cells) (n + mm'.2.2.2.2.slots) (pc + 3) ls st (fun x μ' => Unc mm pc ∧ eQ E (.inr x) μ'))) : Z own cc mm E k n μ pc ls st0 := by
  subst hst
  intro ad H locs la h
  have hX : XW (cS E) := h.kk.1
  obtain ⟨w1, w2, w3, ⟨b0, L0, w4⟩, w5⟩ := hcv
  have hr : LvV μ (vr p i) := h.lst _ (List.mem_append_right _ List.mem_cons_self)
  have hs2 : LvL μ st := fun v hv => h.lst v (List.mem_append_right _ (List.mem_cons_of_mem _ hv))
  have has : LvL μ as := fun v hv => h.lst v (List.mem_append_left _ (List.mem_reverse.mpr hv))
  obtain ⟨mk, methM, hnamed, hmethM, hstM, habM⟩ := Cond.instanceMethod_spec (hX.all w2 (cAr E))
  refine z_callG h hs2 (LvL.cons hr has) (by show (true && as.all isC1) = true; rw [hcat]; rfl) hMD hnamed hlen hrm hd hct fun T hT X => ?_
  have hpl : (cEn E).platform.magicAccessors = ({} : Platform).magicAccessors := by rw [X.admits.platform]
  have hl : ∀ sig, parseMethodDescriptor y.desc = some sig → (as.map (cv ad)).length = sig.parameters.length := fun sig hs => by
    rw [hs] at w5
    rw [List.length_map]
    exact (Option.some.inj w5).symm
  have hstk : (F0 (cM E) pc la ((as.reverse ++ vr p i :: st).map (cv ad))).stack = (as.map (cv ad)).reverse ++ .ref (ad p i) :: st.map (cv ad) := by
    show (as.reverse ++ vr p i :: st).map (cv ad) = _
    rw [List.map_append, List.map_reverse]; rfl
  rcases w1 with w1 | ⟨host, w1⟩
  · obtain ⟨tm, methO, cO, kP, vm₁, hn2, -, -, -, -, -, -, -, hW₁, hs⟩ := Steps.initColdArgs (e := cEn E) X.here h.ex X.warmed hpl h.ow w3 hMD.2.2.1 (hX.all w1 (cAr E)) (hX.all w2 (cAr E)) (hX.all w4 (cAr E)) (f := F0 (cM E) pc la ((as.reverse ++ vr p i :: st).map (cv ad))) rfl hl hstk (by rw [h.bs]; exact hd)
    cases hnamed.symm.trans hn2
    exact ⟨vm₁, X.noted hW₁, hs⟩
  · obtain ⟨tm, methO, cO, kP, vm₁, hn2, -, -, -, -, -, -, -, hW₁, hs⟩ := Steps.initColdArgsNest (e := cEn E) X.here h.ex X.warmed hpl h.ow w3 hMD.2.2.1 (hX.1 _ w1 rfl (cAr E)) (hX.all w2 (cAr E)) (hX.all w4 (cAr E)) (f := F0 (cM E) pc la ((as.reverse ++ vr p i :: st).map (cv ad))) rfl hl hstk (by rw [h.bs]; exact hd)
    cases hnamed.symm.trans hn2
    exact ⟨vm₁, X.noted hW₁, hs⟩
/-- Object's constructor -/
def CO (own : String) (idx : Nat) : Prop := Cond.methodLink own idx Lib.objectInit ∈ lw_all ∧ Cond.instanceMethod Lib.objectInit ∈ lw_all ∧ Cond.code Lib.objectInit ⟨#[0xb1]⟩ 1 none ∈ lw_all
theorem z_objInit {idx : Nat} {r : Nat × Nat} (hc : CO own idx) (hd : decode cc pc = .ok (.invokespecial idx, 3)) (hf : 1 ≤ mm.2.2.2.2.frames) (hl : 2 * st.length + 12 ≤ mm.2.2.2.2.locals) (kk : Z own cc mm E k n μ (pc + 3) ls st) : Z own cc mm E k n μ pc ls (vo (some r) :: st) := by
  intro ad H locs la h
  have hX : XW (cS E) := h.kk.1
  exact W.objInit h.ex h.bs h.ow (hX.all hc.1 _) (hX.all hc.2.1 _) (hX.all hc.2.2 _) rfl (h.lc.1.1.trans h.1.2.2.2.1.symm) rfl hd (by rw [h.rm]; exact hf) (by
    have := cat_sum (st.map (cv ad))
    rw [List.length_map] at this
    rw [h.rm]
    show 2 * 0 + ((st.map (cv ad)).map fun v => v.category).sum + 12 ≤ _
    omega) (kk ad H locs la (h.stk h.lst.tl))
theorem z_invS0 {idx : Nat} {y : MethodName} {cc' : ByteArray} {mm' : MM} (hMD : MD y cc' mm') (hcs : CS own idx y 0) (hd : decode cc pc = .ok (.invokestatic idx, 3)) (hcat : ([] : List AV).all isC1 = true) (hlen : 0 ≤ mm'.1) (hrm : Rm mm mm' k n st.length) (hct : Ct y.cls cc' mm' [] μ (Kon own cc mm E (k + mm'.2.2.2.2.cells) (n + mm'.2.2.2.2.slots) (pc + 3) ls st (fun x μ' => Unc mm pc ∧ eQ E (.inr x) μ'))) : Z own cc mm E k n μ pc ls (st) := z_invS (as := []) hMD hcs hd hcat hlen hrm rfl hct
theorem z_invV0 {idx ci : Nat} {y : MethodName} {cc' : ByteArray} {mm' : MM} (hMD : MD y cc' mm') (hcv : CV own idx ci y 0) (hp : kd p = .inl ci) (hd : decode cc pc = .ok (.invokevirtual idx, 3)) (hcat : ([] : List AV).all isC1 = true) (hlen : 1 ≤ mm'.1) (hrm : Rm mm mm' k n st.length) (hct : Ct y.cls cc' mm' (vr p i :: []) μ (Kon own cc mm E (k + mm'.2.2.2.2.cells) (n + mm'.2.2.2.2.slots) (pc + 3) ls st (fun x μ' => Unc mm pc ∧ eQ E (.inr x) μ'))) : Z own cc mm E k n μ pc ls (vr p i :: st) := z_invV (as := []) hMD hcv hp hd hcat hlen hrm rfl hct
theorem z_invU0 {idx ci : Nat} {x : MethodName} {y : MethodName} {cc' : ByteArray} {mm' : MM} (hMD : MD y cc' mm') (hcv : CU own idx ci x y 0) (hp : kd p = .inl ci) (hd : decode cc pc = .ok (.invokevirtual idx, 3)) (hcat : ([] : List AV).all isC1 = true) (hlen : 1 ≤ mm'.1) (hrm : Rm mm mm' k n st.length) (hct : Ct y.cls cc' mm' (vr p i :: []) μ (Kon own cc mm E (k + mm'.2.2.2.2.cells) (n + mm'.2.2.2.2.slots) (pc + 3) ls st (fun x μ' => Unc mm pc ∧ eQ E (.inr x) μ'))) : Z own cc mm E k n μ pc ls (vr p i :: st) := z_invU (as := []) hMD hcv hp hd hcat hlen hrm rfl hct
theorem z_invI0 {idx : Nat} {y : MethodName} {cc' : ByteArray} {mm' : MM} (hMD : MD y cc' mm') (hcv : CI own idx y 0) (hd : decode cc pc = .ok (.invokespecial idx, 3)) (hcat : ([] : List AV).all isC1 = true) (hlen : 1 ≤ mm'.1) (hrm : Rm mm mm' k n st.length) (hct : Ct y.cls cc' mm' (vr p i :: []) μ (Kon own cc mm E (k + mm'.2.2.2.2.cells) (n + mm'.2.2.2.2.slots) (pc + 3) ls st (fun x μ' => Unc mm pc ∧ eQ E (.inr x) μ'))) : Z own cc mm E k n μ pc ls (vr p i :: st) := z_invI (as := []) hMD hcv hd hcat hlen hrm rfl hct
theorem z_invS1 {a1 : AV} {idx : Nat} {y : MethodName} {cc' : ByteArray} {mm' : MM} (hMD : MD y cc' mm') (hcs : CS own idx y 1) (hd : decode cc pc = .ok (.invokestatic idx, 3)) (hcat : ([a1] : List AV).all isC1 = true) (hlen : 1 ≤ mm'.1) (hrm : Rm mm mm' k n st.length) (hct : Ct y.cls cc' mm' [a1] μ (Kon own cc mm E (k + mm'.2.2.2.2.cells) (n + mm'.2.2.2.2.slots) (pc + 3) ls st (fun x μ' => Unc mm pc ∧ eQ E (.inr x) μ'))) : Z own cc mm E k n μ pc ls (a1 :: st) := z_invS (as := [a1]) hMD hcs hd hcat hlen hrm rfl hct
theorem z_invV1 {a1 : AV} {idx ci : Nat} {y : MethodName} {cc' : ByteArray} {mm' : MM} (hMD : MD y cc' mm') (hcv : CV own idx ci y 1) (hp : kd p = .inl ci) (hd : decode cc pc = .ok (.invokevirtual idx, 3)) (hcat : ([a1] : List AV).all isC1 = true) (hlen : 2 ≤ mm'.1) (hrm : Rm mm mm' k n st.length) (hct : Ct y.cls cc' mm' (vr p i :: [a1]) μ (Kon own cc mm E (k + mm'.2.2.2.2.cells) (n + mm'.2.2.2.2.slots) (pc + 3) ls st (fun x μ' => Unc mm pc ∧ eQ E (.inr x) μ'))) : Z own cc mm E k n μ pc ls (a1 :: vr p i :: st) := z_invV (as := [a1]) hMD hcv hp hd hcat hlen hrm rfl hct
theorem z_invU1 {a1 : AV} {idx ci : Nat} {x : MethodName} {y : MethodName} {cc' : ByteArray} {mm' : MM} (hMD : MD y cc' mm') (hcv : CU own idx ci x y 1) (hp : kd p = .inl ci) (hd : decode cc pc = .ok (.invokevirtual idx, 3)) (hcat : ([a1] : List AV).all isC1 = true) (hlen : 2 ≤ mm'.1) (hrm : Rm mm mm' k n st.length) (hct : Ct y.cls cc' mm' (vr p i :: [a1]) μ (Kon own cc mm E (k + mm'.2.2.2.2.cells) (n + mm'.2.2.2.2.slots) (pc + 3) ls st (fun x μ' => Unc mm pc ∧ eQ E (.inr x) μ'))) : Z own cc mm E k n μ pc ls (a1 :: vr p i :: st) := z_invU (as := [a1]) hMD hcv hp hd hcat hlen hrm rfl hct
theorem z_invI1 {a1 : AV} {idx : Nat} {y : MethodName} {cc' : ByteArray} {mm' : MM} (hMD : MD y cc' mm') (hcv : CI own idx y 1) (hd : decode cc pc = .ok (.invokespecial idx, 3)) (hcat : ([a1] : List AV).all isC1 = true) (hlen : 2 ≤ mm'.1) (hrm : Rm mm mm' k n st.length) (hct : Ct y.cls cc' mm' (vr p i :: [a1]) μ (Kon own cc mm E (k + mm'.2.2.2.2.cells) (n + mm'.2.2.2.2.slots) (pc + 3) ls st (fun x μ' => Unc mm pc ∧ eQ E (.inr x) μ'))) : Z own cc mm E k n μ pc ls (a1 :: vr p i :: st) := z_invI (as := [a1]) hMD hcv hd hcat hlen hrm rfl hct
theorem z_invS2 {a1 a2 : AV} {idx : Nat} {y : MethodName} {cc' : ByteArray} {mm' : MM} (hMD : MD y cc' mm') (hcs : CS own idx y 2) (hd : decode cc pc = .ok (.invokestatic idx, 3)) (hcat : ([a1, a2] : List AV).all isC1 = true) (hlen : 2 ≤ mm'.1) (hrm : Rm mm mm' k n st.length) (hct : Ct y.cls cc' mm' [a1, a2] μ (Kon own cc mm E (k + mm'.2.2.2.2.cells) (n + mm'.2.2.2.2.slots) (pc + 3) ls st (fun x μ' => Unc mm pc ∧ eQ E (.inr x) μ'))) : Z own cc mm E k n μ pc ls (a2 :: a1 :: st) := z_invS (as := [a1, a2]) hMD hcs hd hcat hlen hrm rfl hct
theorem z_invV2 {a1 a2 : AV} {idx ci : Nat} {y : MethodName} {cc' : ByteArray} {mm' : MM} (hMD : MD y cc' mm') (hcv : CV own idx ci y 2) (hp : kd p = .inl ci) (hd : decode cc pc = .ok (.invokevirtual idx, 3)) (hcat : ([a1, a2] : List AV).all isC1 = true) (hlen : 3 ≤ mm'.1) (hrm : Rm mm mm' k n st.length) (hct : Ct y.cls cc' mm' (vr p i :: [a1, a2]) μ (Kon own cc mm E (k + mm'.2.2.2.2.cells) (n + mm'.2.2.2.2.slots) (pc + 3) ls st (fun x μ' => Unc mm pc ∧ eQ E (.inr x) μ'))) : Z own cc mm E k n μ pc ls (a2 :: a1 :: vr p i :: st) := z_invV (as := [a1, a2]) hMD hcv hp hd hcat hlen hrm rfl hct
theorem z_invU2 {a1 a2 : AV} {idx ci : Nat} {x : MethodName} {y : MethodName} {cc' : ByteArray} {mm' : MM} (hMD : MD y cc' mm') (hcv : CU own idx ci x y 2) (hp : kd p = .inl ci) (hd : decode cc pc = .ok (.invokevirtual idx, 3)) (hcat : ([a1, a2] : List AV).all isC1 = true) (hlen : 3 ≤ mm'.1) (hrm : Rm mm mm' k n st.length) (hct : Ct y.cls cc' mm' (vr p i :: [a1, a2]) μ (Kon own cc mm E (k + mm'.2.2.2.2.cells) (n + mm'.2.2.2.2.slots) (pc + 3) ls st (fun x μ' => Unc mm pc ∧ eQ E (.inr x) μ'))) : Z own cc mm E k n μ pc ls (a2 :: a1 :: vr p i :: st) := z_invU (as := [a1, a2]) hMD hcv hp hd hcat hlen hrm rfl hct
theorem z_invI2 {a1 a2 : AV} {idx : Nat} {y : MethodName} {cc' : ByteArray} {mm' : MM} (hMD : MD y cc' mm') (hcv : CI own idx y 2) (hd : decode cc pc = .ok (.invokespecial idx, 3)) (hcat : ([a1, a2] : List AV).all isC1 = true) (hlen : 3 ≤ mm'.1) (hrm : Rm mm mm' k n st.length) (hct : Ct y.cls cc' mm' (vr p i :: [a1, a2]) μ (Kon own cc mm E (k + mm'.2.2.2.2.cells) (n + mm'.2.2.2.2.slots) (pc + 3) ls st (fun x μ' => Unc mm pc ∧ eQ E (.inr x) μ'))) : Z own cc mm E k n μ pc ls (a2 :: a1 :: vr p i :: st) := z_invI (as := [a1, a2]) hMD hcv hd hcat hlen hrm rfl hct
theorem z_invS3 {a1 a2 a3 : AV} {idx : Nat} {y : MethodName} {cc' : ByteArray} {mm' : MM} (hMD : MD y cc' mm') (hcs : CS own idx y 3) (hd : decode cc pc = .ok (.invokestatic idx, 3)) (hcat : ([a1, a2, a3] : List AV).all isC1 = true) (hlen : 3 ≤ mm'.1) (hrm : Rm mm mm' k n st.length) (hct : Ct y.cls cc' mm' [a1, a2, a3] μ (Kon own cc mm E (k + mm'.2.2.2.2.cells) (n + mm'.2.2.2.2.slots) (pc + 3) ls st (fun x μ' => Unc mm pc ∧ eQ E (.inr x) μ'))) : Z own cc mm E k n μ pc ls (a3 :: a2 :: a1 :: st) := z_invS (as := [a1, a2, a3]) hMD hcs hd hcat hlen hrm rfl hct
theorem z_invV3 {a1 a2 a3 : AV} {idx ci : Nat} {y : MethodName} {cc' : ByteArray} {mm' : MM} (hMD : MD y cc' mm') (hcv : CV own idx ci y 3) (hp : kd p = .inl ci) (hd : decode cc pc = .ok (.invokevirtual idx, 3)) (hcat : ([a1, a2, a3] : List AV).all isC1 = true) (hlen : 4 ≤ mm'.1) (hrm : Rm mm mm' k n st.length) (hct : Ct y.cls cc' mm' (vr p i :: [a1, a2, a3]) μ (Kon own cc mm E (k + mm'.2.2.2.2.cells) (n + mm'.2.2.2.2.slots) (pc + 3) ls st (fun x μ' => Unc mm pc ∧ eQ E (.inr x) μ'))) : Z own cc mm E k n μ pc ls (a3 :: a2 :: a1 :: vr p i :: st) := z_invV (as := [a1, a2, a3]) hMD hcv hp hd hcat hlen hrm rfl hct
theorem z_invU3 {a1 a2 a3 : AV} {idx ci : Nat} {x : MethodName} {y : MethodName} {cc' : ByteArray} {mm' : MM} (hMD : MD y cc' mm') (hcv : CU own idx ci x y 3) (hp : kd p = .inl ci) (hd : decode cc pc = .ok (.invokevirtual idx, 3)) (hcat : ([a1, a2, a3] : List AV).all isC1 = true) (hlen : 4 ≤ mm'.1) (hrm : Rm mm mm' k n st.length) (hct : Ct y.cls cc' mm' (vr p i :: [a1, a2, a3]) μ (Kon own cc mm E (k + mm'.2.2.2.2.cells) (n + mm'.2.2.2.2.slots) (pc + 3) ls st (fun x μ' => Unc mm pc ∧ eQ E (.inr x) μ'))) : Z own cc mm E k n μ pc ls (a3 :: a2 :: a1 :: vr p i :: st) := z_invU (as := [a1, a2, a3]) hMD hcv hp hd hcat hlen hrm rfl hct
theorem z_invI3 {a1 a2 a3 : AV} {idx : Nat} {y : MethodName} {cc' : ByteArray} {mm' : MM} (hMD : MD y cc' mm') (hcv : CI own idx y 3) (hd : decode cc pc = .ok (.invokespecial idx, 3)) (hcat : ([a1, a2, a3] : List AV).all isC1 = true) (hlen : 4 ≤ mm'.1) (hrm : Rm mm mm' k n st.length) (hct : Ct y.cls cc' mm' (vr p i :: [a1, a2, a3]) μ (Kon own cc mm E (k + mm'.2.2.2.2.cells) (n + mm'.2.2.2.2.slots) (pc + 3) ls st (fun x μ' => Unc mm pc ∧ eQ E (.inr x) μ'))) : Z own cc mm E k n μ pc ls (a3 :: a2 :: a1 :: vr p i :: st) := z_invI (as := [a1, a2, a3]) hMD hcv hd hcat hlen hrm rfl hct
theorem z_invS4 {a1 a2 a3 a4 : AV} {idx : Nat} {y : MethodName} {cc' : ByteArray} {mm' : MM} (hMD : MD y cc' mm') (hcs : CS own idx y 4) (hd : decode cc pc = .ok (.invokestatic idx, 3)) (hcat : ([a1, a2, a3, a4] : List AV).all isC1 = true) (hlen : 4 ≤ mm'.1) (hrm : Rm mm mm' k n st.length) (hct : Ct y.cls cc' mm' [a1, a2, a3, a4] μ (Kon own cc mm E (k + mm'.2.2.2.2.cells) (n + mm'.2.2.2.2.slots) (pc + 3) ls st (fun x μ' => Unc mm pc ∧ eQ E (.inr x) μ'))) : Z own cc mm E k n μ pc ls (a4 :: a3 :: a2 :: a1 :: st) := z_invS (as := [a1, a2, a3, a4]) hMD hcs hd hcat hlen hrm rfl hct
theorem z_invV4 {a1 a2 a3 a4 : AV} {idx ci : Nat} {y : MethodName} {cc' : ByteArray} {mm' : MM} (hMD : MD y cc' mm') (hcv : CV own idx ci y 4) (hp : kd p = .inl ci) (hd : decode cc pc = .ok (.invokevirtual idx, 3)) (hcat : ([a1, a2, a3, a4] : List AV).all isC1 = true) (hlen : 5 ≤ mm'.1) (hrm : Rm mm mm' k n st.length) (hct : Ct y.cls cc' mm' (vr p i :: [a1, a2, a3, a4]) μ (Kon own cc mm E (k + mm'.2.2.2.2.cells) (n + mm'.2.2.2.2.slots) (pc + 3) ls st (fun x μ' => Unc mm pc ∧ eQ E (.inr x) μ'))) : Z own cc mm E k n μ pc ls (a4 :: a3 :: a2 :: a1 :: vr p i :: st) := z_invV (as := [a1, a2, a3, a4]) hMD hcv hp hd hcat hlen hrm rfl hct
theorem z_invU4 {a1 a2 a3 a4 : AV} {idx ci : Nat} {x : MethodName} {y : MethodName} {cc' : ByteArray} {mm' : MM} (hMD : MD y cc' mm') (hcv : CU own idx ci x y 4) (hp : kd p = .inl ci) (hd : decode cc pc = .ok (.invokevirtual idx, 3)) (hcat : ([a1, a2, a3, a4] : List AV).all isC1 = true) (hlen : 5 ≤ mm'.1) (hrm : Rm mm mm' k n st.length) (hct : Ct y.cls cc' mm' (vr p i :: [a1, a2, a3, a4]) μ (Kon own cc mm E (k + mm'.2.2.2.2.cells) (n + mm'.2.2.2.2.slots) (pc + 3) ls st (fun x μ' => Unc mm pc ∧ eQ E (.inr x) μ'))) : Z own cc mm E k n μ pc ls (a4 :: a3 :: a2 :: a1 :: vr p i :: st) := z_invU (as := [a1, a2, a3, a4]) hMD hcv hp hd hcat hlen hrm rfl hct
theorem z_invI4 {a1 a2 a3 a4 : AV} {idx : Nat} {y : MethodName} {cc' : ByteArray} {mm' : MM} (hMD : MD y cc' mm') (hcv : CI own idx y 4) (hd : decode cc pc = .ok (.invokespecial idx, 3)) (hcat : ([a1, a2, a3, a4] : List AV).all isC1 = true) (hlen : 5 ≤ mm'.1) (hrm : Rm mm mm' k n st.length) (hct : Ct y.cls cc' mm' (vr p i :: [a1, a2, a3, a4]) μ (Kon own cc mm E (k + mm'.2.2.2.2.cells) (n + mm'.2.2.2.2.slots) (pc + 3) ls st (fun x μ' => Unc mm pc ∧ eQ E (.inr x) μ'))) : Z own cc mm E k n μ pc ls (a4 :: a3 :: a2 :: a1 :: vr p i :: st) := z_invI (as := [a1, a2, a3, a4]) hMD hcv hd hcat hlen hrm rfl hct
theorem z_invS5 {a1 a2 a3 a4 a5 : AV} {idx : Nat} {y : MethodName} {cc' : ByteArray} {mm' : MM} (hMD : MD y cc' mm') (hcs : CS own idx y 5) (hd : decode cc pc = .ok (.invokestatic idx, 3)) (hcat : ([a1, a2, a3, a4, a5] : List AV).all isC1 = true) (hlen : 5 ≤ mm'.1) (hrm : Rm mm mm' k n st.length) (hct : Ct y.cls cc' mm' [a1, a2, a3, a4, a5] μ (Kon own cc mm E (k + mm'.2.2.2.2.cells) (n + mm'.2.2.2.2.slots) (pc + 3) ls st (fun x μ' => Unc mm pc ∧ eQ E (.inr x) μ'))) : Z own cc mm E k n μ pc ls (a5 :: a4 :: a3 :: a2 :: a1 :: st) := z_invS (as := [a1, a2, a3, a4, a5]) hMD hcs hd hcat hlen hrm rfl hct
theorem z_invV5 {a1 a2 a3 a4 a5 : AV} {idx ci : Nat} {y : MethodName} {cc' : ByteArray} {mm' : MM} (hMD : MD y cc' mm') (hcv : CV own idx ci y 5) (hp : kd p = .inl ci) (hd : decode cc pc = .ok (.invokevirtual idx, 3)) (hcat : ([a1, a2, a3, a4, a5] : List AV).all isC1 = true) (hlen : 6 ≤ mm'.1) (hrm : Rm mm mm' k n st.length) (hct : Ct y.cls cc' mm' (vr p i :: [a1, a2, a3, a4, a5]) μ (Kon own cc mm E (k + mm'.2.2.2.2.cells) (n + mm'.2.2.2.2.slots) (pc + 3) ls st (fun x μ' => Unc mm pc ∧ eQ E (.inr x) μ'))) : Z own cc mm E k n μ pc ls (a5 :: a4 :: a3 :: a2 :: a1 :: vr p i :: st) := z_invV (as := [a1, a2, a3, a4, a5]) hMD hcv hp hd hcat hlen hrm rfl hct
theorem z_invU5 {a1 a2 a3 a4 a5 : AV} {idx ci : Nat} {x : MethodName} {y : MethodName} {cc' : ByteArray} {mm' : MM} (hMD : MD y cc' mm') (hcv : CU own idx ci x y 5) (hp : kd p = .inl ci) (hd : decode cc pc = .ok (.invokevirtual idx, 3)) (hcat : ([a1, a2, a3, a4, a5] : List AV).all isC1 = true) (hlen : 6 ≤ mm'.1) (hrm : Rm mm mm' k n st.length) (hct : Ct y.cls cc' mm' (vr p i :: [a1, a2, a3, a4, a5]) μ (Kon own cc mm E (k + mm'.2.2.2.2.cells) (n + mm'.2.2.2.2.slots) (pc + 3) ls st (fun x μ' => Unc mm pc ∧ eQ E (.inr x) μ'))) : Z own cc mm E k n μ pc ls (a5 :: a4 :: a3 :: a2 :: a1 :: vr p i :: st) := z_invU (as := [a1, a2, a3, a4, a5]) hMD hcv hp hd hcat hlen hrm rfl hct
theorem z_invI5 {a1 a2 a3 a4 a5 : AV} {idx : Nat} {y : MethodName} {cc' : ByteArray} {mm' : MM} (hMD : MD y cc' mm') (hcv : CI own idx y 5) (hd : decode cc pc = .ok (.invokespecial idx, 3)) (hcat : ([a1, a2, a3, a4, a5] : List AV).all isC1 = true) (hlen : 6 ≤ mm'.1) (hrm : Rm mm mm' k n st.length) (hct : Ct y.cls cc' mm' (vr p i :: [a1, a2, a3, a4, a5]) μ (Kon own cc mm E (k + mm'.2.2.2.2.cells) (n + mm'.2.2.2.2.slots) (pc + 3) ls st (fun x μ' => Unc mm pc ∧ eQ E (.inr x) μ'))) : Z own cc mm E k n μ pc ls (a5 :: a4 :: a3 :: a2 :: a1 :: vr p i :: st) := z_invI (as := [a1, a2, a3, a4, a5]) hMD hcv hd hcat hlen hrm rfl hct
theorem z_invS6 {a1 a2 a3 a4 a5 a6 : AV} {idx : Nat} {y : MethodName} {cc' : ByteArray} {mm' : MM} (hMD : MD y cc' mm') (hcs : CS own idx y 6) (hd : decode cc pc = .ok (.invokestatic idx, 3)) (hcat : ([a1, a2, a3, a4, a5, a6] : List AV).all isC1 = true) (hlen : 6 ≤ mm'.1) (hrm : Rm mm mm' k n st.length) (hct : Ct y.cls cc' mm' [a1, a2, a3, a4, a5, a6] μ (Kon own cc mm E (k + mm'.2.2.2.2.cells) (n + mm'.2.2.2.2.slots) (pc + 3) ls st (fun x μ' => Unc mm pc ∧ eQ E (.inr x) μ'))) : Z own cc mm E k n μ pc ls (a6 :: a5 :: a4 :: a3 :: a2 :: a1 :: st) := z_invS (as := [a1, a2, a3, a4, a5, a6]) hMD hcs hd hcat hlen hrm rfl hct
theorem z_invV6 {a1 a2 a3 a4 a5 a6 : AV} {idx ci : Nat} {y : MethodName} {cc' : ByteArray} {mm' : MM} (hMD : MD y cc' mm') (hcv : CV own idx ci y 6) (hp : kd p = .inl ci) (hd : decode cc pc = .ok (.invokevirtual idx, 3)) (hcat : ([a1, a2, a3, a4, a5, a6] : List AV).all isC1 = true) (hlen : 7 ≤ mm'.1) (hrm : Rm mm mm' k n st.length) (hct : Ct y.cls cc' mm' (vr p i :: [a1, a2, a3, a4, a5, a6]) μ (Kon own cc mm E (k + mm'.2.2.2.2.cells) (n + mm'.2.2.2.2.slots) (pc + 3) ls st (fun x μ' => Unc mm pc ∧ eQ E (.inr x) μ'))) : Z own cc mm E k n μ pc ls (a6 :: a5 :: a4 :: a3 :: a2 :: a1 :: vr p i :: st) := z_invV (as := [a1, a2, a3, a4, a5, a6]) hMD hcv hp hd hcat hlen hrm rfl hct
theorem z_invU6 {a1 a2 a3 a4 a5 a6 : AV} {idx ci : Nat} {x : MethodName} {y : MethodName} {cc' : ByteArray} {mm' : MM} (hMD : MD y cc' mm') (hcv : CU own idx ci x y 6) (hp : kd p = .inl ci) (hd : decode cc pc = .ok (.invokevirtual idx, 3)) (hcat : ([a1, a2, a3, a4, a5, a6] : List AV).all isC1 = true) (hlen : 7 ≤ mm'.1) (hrm : Rm mm mm' k n st.length) (hct : Ct y.cls cc' mm' (vr p i :: [a1, a2, a3, a4, a5, a6]) μ (Kon own cc mm E (k + mm'.2.2.2.2.cells) (n + mm'.2.2.2.2.slots) (pc + 3) ls st (fun x μ' => Unc mm pc ∧ eQ E (.inr x) μ'))) : Z own cc mm E k n μ pc ls (a6 :: a5 :: a4 :: a3 :: a2 :: a1 :: vr p i :: st) := z_invU (as := [a1, a2, a3, a4, a5, a6]) hMD hcv hp hd hcat hlen hrm rfl hct
theorem z_invI6 {a1 a2 a3 a4 a5 a6 : AV} {idx : Nat} {y : MethodName} {cc' : ByteArray} {mm' : MM} (hMD : MD y cc' mm') (hcv : CI own idx y 6) (hd : decode cc pc = .ok (.invokespecial idx, 3)) (hcat : ([a1, a2, a3, a4, a5, a6] : List AV).all isC1 = true) (hlen : 7 ≤ mm'.1) (hrm : Rm mm mm' k n st.length) (hct : Ct y.cls cc' mm' (vr p i :: [a1, a2, a3, a4, a5, a6]) μ (Kon own cc mm E (k + mm'.2.2.2.2.cells) (n + mm'.2.2.2.2.slots) (pc + 3) ls st (fun x μ' => Unc mm pc ∧ eQ E (.inr x) μ'))) : Z own cc mm E k n μ pc ls (a6 :: a5 :: a4 :: a3 :: a2 :: a1 :: vr p i :: st) := z_invI (as := [a1, a2, a3, a4, a5, a6]) hMD hcv hd hcat hlen hrm rfl hct
theorem z_invS7 {a1 a2 a3 a4 a5 a6 a7 : AV} {idx : Nat} {y : MethodName} {cc' : ByteArray} {mm' : MM} (hMD : MD y cc' mm') (hcs : CS own idx y 7) (hd : decode cc pc = .ok (.invokestatic idx, 3)) (hcat : ([a1, a2, a3, a4, a5, a6, a7] : List AV).all isC1 = true) (hlen : 7 ≤ mm'.1) (hrm : Rm mm mm' k n st.length) (hct : Ct y.cls cc' mm' [a1, a2, a3, a4, a5, a6, a7] μ (Kon own cc mm E (k + mm'.2.2.2.2.cells) (n + mm'.2.2.2.2.slots) (pc + 3) ls st (fun x μ' => Unc mm pc ∧ eQ E (.inr x) μ'))) : Z own cc mm E k n μ pc ls (a7 :: a6 :: a5 :: a4 :: a3 :: a2 :: a1 :: st) := z_invS (as := [a1, a2, a3, a4, a5, a6, a7]) hMD hcs hd hcat hlen hrm rfl hct
theorem z_invV7 {a1 a2 a3 a4 a5 a6 a7 : AV} {idx ci : Nat} {y : MethodName} {cc' : ByteArray} {mm' : MM} (hMD : MD y cc' mm') (hcv : CV own idx ci y 7) (hp : kd p = .inl ci) (hd : decode cc pc = .ok (.invokevirtual idx, 3)) (hcat : ([a1, a2, a3, a4, a5, a6, a7] : List AV).all isC1 = true) (hlen : 8 ≤ mm'.1) (hrm : Rm mm mm' k n st.length) (hct : Ct y.cls cc' mm' (vr p i :: [a1, a2, a3, a4, a5, a6, a7]) μ (Kon own cc mm E (k + mm'.2.2.2.2.cells) (n + mm'.2.2.2.2.slots) (pc + 3) ls st (fun x μ' => Unc mm pc ∧ eQ E (.inr x) μ'))) : Z own cc mm E k n μ pc ls (a7 :: a6 :: a5 :: a4 :: a3 :: a2 :: a1 :: vr p i :: st) := z_invV (as := [a1, a2, a3, a4, a5, a6, a7]) hMD hcv hp hd hcat hlen hrm rfl hct
theorem z_invU7 {a1 a2 a3 a4 a5 a6 a7 : AV} {idx ci : Nat} {x : MethodName} {y : MethodName} {cc' : ByteArray} {mm' : MM} (hMD : MD y cc' mm') (hcv : CU own idx ci x y 7) (hp : kd p = .inl ci) (hd : decode cc pc = .ok (.invokevirtual idx, 3)) (hcat : ([a1, a2, a3, a4, a5, a6, a7] : List AV).all isC1 = true) (hlen : 8 ≤ mm'.1) (hrm : Rm mm mm' k n st.length) (hct : Ct y.cls cc' mm' (vr p i :: [a1, a2, a3, a4, a5, a6, a7]) μ (Kon own cc mm E (k + mm'.2.2.2.2.cells) (n + mm'.2.2.2.2.slots) (pc + 3) ls st (fun x μ' => Unc mm pc ∧ eQ E (.inr x) μ'))) : Z own cc mm E k n μ pc ls (a7 :: a6 :: a5 :: a4 :: a3 :: a2 :: a1 :: vr p i :: st) := z_invU (as := [a1, a2, a3, a4, a5, a6, a7]) hMD hcv hp hd hcat hlen hrm rfl hct
theorem z_invI7 {a1 a2 a3 a4 a5 a6 a7 : AV} {idx : Nat} {y : MethodName} {cc' : ByteArray} {mm' : MM} (hMD : MD y cc' mm') (hcv : CI own idx y 7) (hd : decode cc pc = .ok (.invokespecial idx, 3)) (hcat : ([a1, a2, a3, a4, a5, a6, a7] : List AV).all isC1 = true) (hlen : 8 ≤ mm'.1) (hrm : Rm mm mm' k n st.length) (hct : Ct y.cls cc' mm' (vr p i :: [a1, a2, a3, a4, a5, a6, a7]) μ (Kon own cc mm E (k + mm'.2.2.2.2.cells) (n + mm'.2.2.2.2.slots) (pc + 3) ls st (fun x μ' => Unc mm pc ∧ eQ E (.inr x) μ'))) : Z own cc mm E k n μ pc ls (a7 :: a6 :: a5 :: a4 :: a3 :: a2 :: a1 :: vr p i :: st) := z_invI (as := [a1, a2, a3, a4, a5, a6, a7]) hMD hcv hd hcat hlen hrm rfl hct
theorem z_invS8 {a1 a2 a3 a4 a5 a6 a7 a8 : AV} {idx : Nat} {y : MethodName} {cc' : ByteArray} {mm' : MM} (hMD : MD y cc' mm') (hcs : CS own idx y 8) (hd : decode cc pc = .ok (.invokestatic idx, 3)) (hcat : ([a1, a2, a3, a4, a5, a6, a7, a8] : List AV).all isC1 = true) (hlen : 8 ≤ mm'.1) (hrm : Rm mm mm' k n st.length) (hct : Ct y.cls cc' mm' [a1, a2, a3, a4, a5, a6, a7, a8] μ (Kon own cc mm E (k + mm'.2.2.2.2.cells) (n + mm'.2.2.2.2.slots) (pc + 3) ls st (fun x μ' => Unc mm pc ∧ eQ E (.inr x) μ'))) : Z own cc mm E k n μ pc ls (a8 :: a7 :: a6 :: a5 :: a4 :: a3 :: a2 :: a1 :: st) := z_invS (as := [a1, a2, a3, a4, a5, a6, a7, a8]) hMD hcs hd hcat hlen hrm rfl hct
theorem z_invV8 {a1 a2 a3 a4 a5 a6 a7 a8 : AV} {idx ci : Nat} {y : MethodName} {cc' : ByteArray} {mm' : MM} (hMD : MD y cc' mm') (hcv : CV own idx ci y 8) (hp : kd p = .inl ci) (hd : decode cc pc = .ok (.invokevirtual idx, 3)) (hcat : ([a1, a2, a3, a4, a5, a6, a7, a8] : List AV).all isC1 = true) (hlen : 9 ≤ mm'.1) (hrm : Rm mm mm' k n st.length) (hct : Ct y.cls cc' mm' (vr p i :: [a1, a2, a3, a4, a5, a6, a7, a8]) μ (Kon own cc mm E (k + mm'.2.2.2.2.cells) (n + mm'.2.2.2.2.slots) (pc + 3) ls st (fun x μ' => Unc mm pc ∧ eQ E (.inr x) μ'))) : Z own cc mm E k n μ pc ls (a8 :: a7 :: a6 :: a5 :: a4 :: a3 :: a2 :: a1 :: vr p i :: st) := z_invV (as := [a1, a2, a3, a4, a5, a6, a7, a8]) hMD hcv hp hd hcat hlen hrm rfl hct
theorem z_invU8 {a1 a2 a3 a4 a5 a6 a7 a8 : AV} {idx ci : Nat} {x : MethodName} {y : MethodName} {cc' : ByteArray} {mm' : MM} (hMD : MD y cc' mm') (hcv : CU own idx ci x y 8) (hp : kd p = .inl ci) (hd : decode cc pc = .ok (.invokevirtual idx, 3)) (hcat : ([a1, a2, a3, a4, a5, a6, a7, a8] : List AV).all isC1 = true) (hlen : 9 ≤ mm'.1) (hrm : Rm mm mm' k n st.length) (hct : Ct y.cls cc' mm' (vr p i :: [a1, a2, a3, a4, a5, a6, a7, a8]) μ (Kon own cc mm E (k + mm'.2.2.2.2.cells) (n + mm'.2.2.2.2.slots) (pc + 3) ls st (fun x μ' => Unc mm pc ∧ eQ E (.inr x) μ'))) : Z own cc mm E k n μ pc ls (a8 :: a7 :: a6 :: a5 :: a4 :: a3 :: a2 :: a1 :: vr p i :: st) := z_invU (as := [a1, a2, a3, a4, a5, a6, a7, a8]) hMD hcv hp hd hcat hlen hrm rfl hct
theorem z_invI8 {a1 a2 a3 a4 a5 a6 a7 a8 : AV} {idx : Nat} {y : MethodName} {cc' : ByteArray} {mm' : MM} (hMD : MD y cc' mm') (hcv : CI own idx y 8) (hd : decode cc pc = .ok (.invokespecial idx, 3)) (hcat : ([a1, a2, a3, a4, a5, a6, a7, a8] : List AV).all isC1 = true) (hlen : 9 ≤ mm'.1) (hrm : Rm mm mm' k n st.length) (hct : Ct y.cls cc' mm' (vr p i :: [a1, a2, a3, a4, a5, a6, a7, a8]) μ (Kon own cc mm E (k + mm'.2.2.2.2.cells) (n + mm'.2.2.2.2.slots) (pc + 3) ls st (fun x μ' => Unc mm pc ∧ eQ E (.inr x) μ'))) : Z own cc mm E k n μ pc ls (a8 :: a7 :: a6 :: a5 :: a4 :: a3 :: a2 :: a1 :: vr p i :: st) := z_invI (as := [a1, a2, a3, a4, a5, a6, a7, a8]) hMD hcv hd hcat hlen hrm rfl hct
end ZI
