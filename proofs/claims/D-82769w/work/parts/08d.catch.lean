/-! who catches: the search through a method's own table, its classes resolved or not yet -/
section ZK
theorem fh_hit {Q : Handler → Pre} {E : CtlPost} {e : Env} {d : Bool} {acts : List Action} {s : State} {f : JFrame} {a : Addr} {x : ExceptionTableEntry} {t : List ExceptionTableEntry} {c : ClassId} {cell : Cell} (hx : covers x f.pc = true) (h0 : x.catchType ≠ 0)
    (hl : s.vm.ClassLinks e.platform f.method.cls x.catchType c) (hcell : s.heap[a]? = some cell) (hobj : ∀ k, cell.vm ≠ .statics k)
    (hk : ∃ k, s.vm.classes[cell.cls]? = some k) (hc : ∃ k, s.vm.classes[c]? = some k) (b : Bool) (hfit : s.vm.assignable cell.cls c = b) :
    wp (findHandler.go f a (x :: t)) Q E e d acts s ↔ (if b then Q (.found x.handlerPc) d acts (s.setVm (s.vm.noted f.method.cls x.catchType (.cls c))) else wp (findHandler.go f a t) Q E e d acts (s.setVm (s.vm.noted f.method.cls x.catchType (.cls c)))) := by
  simp only [covers] at hx
  obtain ⟨ha, ht⟩ := (resolveClass_links e.toSetting hl).op (op := VmOp.resolveClass f.method.cls x.catchType) rfl
  have hal : s.vm.Alike (s.vm.noted f.method.cls x.catchType (.cls c)) := (Vm.Alike.refl s.vm).noted _ _ _
  obtain ⟨k1, hk1⟩ := hk
  obtain ⟨k2, hk2⟩ := hc
  obtain ⟨k1', hk1', -⟩ := hal.2.2 _ _ hk1
  obtain ⟨k2', hk2', -⟩ := hal.2.2 _ _ hk2
  have hfit' : (s.vm.noted f.method.cls x.catchType (.cls c)).assignable cell.cls c = b := by rw [hal.assignable]; exact hfit
  cases b with
  | true => simp [findHandler.go, hx, h0, ha, ht, hcell, hobj, hk1', hk2', hfit', VmOp.dirties, VmOp.acts]
  | false => simp [findHandler.go, hx, h0, ha, ht, hcell, hobj, hk1', hk2', hfit', VmOp.dirties, VmOp.acts]
/-- the first entry that covers the place and names a class of the object's leads to h -/
def Hit (own : String) (args : Array Value) (s : State) (cx : ClassId) (pc h : Nat) : List ExceptionTableEntry → Prop
  | [] => False
  | x :: t => (covers x pc = false ∧ Hit own args s cx pc h t) ∨ (covers x pc = true ∧ x.catchType ≠ 0 ∧ ∃ name cT, (Cond.classLink own x.catchType name).before args s = true ∧ s.vm.findClass name = some cT ∧ ((s.vm.assignable cx cT = true ∧ x.handlerPc = h) ∨ (s.vm.assignable cx cT = false ∧ Hit own args s cx pc h t)))
theorem fh_go {own : String} {args : Array Value} {s : State} {cx : ClassId} {h : Nat} {e : Env} {g : JFrame} {a : Addr} {cell : Cell} (hpl : e.platform.magicAccessors = ({} : Platform).magicAccessors) (hown : s.vm.findClass own = some g.method.cls) (hcx : cell.cls = cx) (hobj : ∀ k, cell.vm ≠ .statics k) (hkx : ∃ k, s.vm.classes[cx]? = some k) :
    ∀ (es : List ExceptionTableEntry), Hit own args s cx g.pc h es → ∀ U : State, s.WarmedH U.vm → U.heap[a]? = some cell → ∃ vm', s.WarmedH vm' ∧ ∀ (Q : Handler → Pre) (E : CtlPost) (d : Bool) (acts : List Action), wp (findHandler.go g a es) Q E e d acts U ↔ Q (.found h) d acts (U.setVm vm')
  | [], hh, _, _, _ => hh.elim
  | x :: t, hh, U, hW, hcell => by
    rcases hh with ⟨h1, h2⟩ | ⟨h1, h0, name, cT, hlink, hcT, h3⟩
    · obtain ⟨vm', q1, q2⟩ := fh_go hpl hown hcx hobj hkx t h2 U hW hcell
      refine ⟨vm', q1, fun Q E d acts => ?_⟩
      rw [W.findHandler_go_skip h1]
      exact q2 Q E d acts
    · obtain ⟨c', hc', hcl⟩ := Cond.classLink_spec hown hlink e.platform hpl
      cases hcT.symm.trans hc'
      obtain ⟨dk, _, _, kt, hd, _, _, _, _, hkt, _, hopen⟩ := hcl.here
      have hcl₀ := hW.classLinks hcl
      have hW' : s.WarmedH (U.vm.noted g.method.cls x.catchType (.cls cT)) := hW.noted hd hopen (State.rightAt_cls hcl)
      have hal := hW.alike
      obtain ⟨kt', hkt', -⟩ := hal.2.2 _ _ hkt
      obtain ⟨kx, hkx0⟩ := hkx
      obtain ⟨kx', hkx', -⟩ := hal.2.2 _ _ hkx0
      have hkU : ∃ k, U.vm.classes[cell.cls]? = some k := ⟨kx', by rw [hcx]; exact hkx'⟩
      rcases h3 with ⟨f1, f2⟩ | ⟨f1, f2⟩
      · refine ⟨_, hW', fun Q E d acts => ?_⟩
        rw [fh_hit h1 h0 hcl₀ hcell hobj hkU ⟨kt', hkt'⟩ true (by rw [hal.assignable, hcx]; exact f1), if_pos rfl, f2]
      · obtain ⟨vm', q1, q2⟩ := fh_go hpl hown hcx hobj ⟨kx, hkx0⟩ t f2 (U.setVm (U.vm.noted g.method.cls x.catchType (.cls cT))) hW' hcell
        refine ⟨vm', q1, fun Q E d acts => ?_⟩
        rw [fh_hit h1 h0 hcl₀ hcell hobj hkU ⟨kt', hkt'⟩ false (by rw [hal.assignable, hcx]; exact f1), if_neg (by decide)]
        exact q2 Q E d acts
theorem catch_step {tb : Tables} {e : Env} {s target : State} {g : JFrame} {c : Code} {below : List Frame} {a : Addr} (h : At s g.method c below) {pc : Nat} {vm' : Vm}
    (hfind : ∀ (Q : Handler → Pre) (E : CtlPost) (d : Bool) (acts : List Action), wp (findHandler g a) Q E e d acts ((s.setTop g).pushFrame (.throwing a)) ↔ Q (.found pc) d acts (((s.setTop g).pushFrame (.throwing a)).setVm vm'))
    (hrest : Steps tb e below ((s.setVm vm').setTop { g with pc := pc, stack := [.ref a] }) target) :
    Steps tb e below ((s.setTop g).pushFrame (.throwing a)) target := by
  have key : ∀ (r : List Frame), (stepThrowing e ((s.setTop g).pushFrame (.throwing a)) a (.java g :: r)).Is ((((s.setTop g).pushFrame (.throwing a)).setVm vm').setFrames (.java { g with pc := pc, stack := [.ref a] } :: r)) [] := by
    intro r
    simp only [stepThrowing, searchFrame, vmDo]
    generalize hr : Sem.go _ e false [] _ = res
    obtain ⟨as, rfl, ha⟩ := Sem.eq_ok_of hr (a := Handler.found pc) (s' := ((s.setTop g).pushFrame (.throwing a)).setVm vm') (acts' := []) (by simp [hfind _ _ _ _])
    exact ⟨rfl, ha⟩
  have fr : ∀ (u : State) (F G : List Frame), ((u.setFrames F).setVm vm').setFrames G = (u.setVm vm').setFrames G := fun u F G => by
    have h1 : (u.setFrames F).setVm vm' = (u.setVm vm').setFrames F := rfl
    rw [h1, State.setFrames_setFrames]
  obtain ⟨hgo, hw⟩ := h.throwing a
  refine Steps.head hgo hw ?_
  rw [stepThread_throwing (frames_entered h.top _), (key _).1]
  obtain ⟨g₀, hg⟩ := Option.isSome_iff_exists.mp h.top
  obtain ⟨r, hr⟩ := State.topJava?_eq_some.mp hg
  have hr' : (s.setVm vm').frames = .java g₀ :: r := hr
  rw [State.setTop_of_frames _ hr'] at hrest
  rw [hr, List.tail_cons, State.pushFrame, fr, State.setTop_of_frames _ hr, fr]
  exact hrest
variable {own : String} {cc : ByteArray} {mm : MM} {E : Ex} {k n : Nat} {μ μ' : Mem} {pc : Nat} {ls : List (Option AV)} {st : List AV} {ad ad' : Ad} {H H' : Heap} {locs : List Loc} {la : Array Slot} {Γ : Gx} {p i : Nat} {s : State}
/-- the class of a pool of throwables -/
def xcl (p : Nat) : Nat := if p = 3 then 5 else p - 38
/-- where an exception of a pool is caught: nm names the classes of the table's entries -/
def catF (nm : Nat → Nat) (x pc : Nat) : List (Nat × Nat × Nat × Nat) → Option Nat
  | [] => none
  | q :: t => if decide (q.1 ≤ pc) && decide (pc < q.2.1) then (if nm q.2.2.2 = x then some q.2.2.1 else catF nm x pc t) else catF nm x pc t
def NMok (own : String) (nm : Nat → Nat) (hs : List (Nat × Nat × Nat × Nat)) : Prop := ∀ q ∈ hs, q.2.2.2 ≠ 0 ∧ ∃ c, exN[nm q.2.2.2]? = some c ∧ Cond.classLink own q.2.2.2 c ∈ lw_all
theorem exN_ne {a b : Nat} {x y : String} (hx : exN[a]? = some x) (hy : exN[b]? = some y) (h : a ≠ b) : x ≠ y := by
  have key : ∀ a, a < 6 → ∀ b, b < 6 → a ≠ b → exN[a]? ≠ exN[b]? := by decide +kernel
  have la := (List.getElem?_eq_some_iff.mp hx).1
  have lb := (List.getElem?_eq_some_iff.mp hy).1
  intro e
  exact key a la b lb h (by rw [hx, hy, e])
theorem exN_cast : rideL ((exN.map (fun c => Cond.castable c c))) = true := by decide +kernel
theorem Hit.of (hK : KK Γ s) {nm : Nat → Nat} {x h : Nat} {X : String} {cx : ClassId} (hx : exN[x]? = some X) (hcx : s.vm.findClass X = some cx) {args : Array Value} : ∀ (es : List ExceptionTableEntry), NMok own nm (es.map (fun h => (h.startPc, h.endPc, h.handlerPc, h.catchType))) → catF nm x pc (es.map (fun h => (h.startPc, h.endPc, h.handlerPc, h.catchType))) = some h → Hit own args s cx pc h es
  | [], _, hc => by cases hc
  | y :: t, hn, hc => by
    have hn' : NMok own nm (t.map (fun h => (h.startPc, h.endPc, h.handlerPc, h.catchType))) := fun q hq => hn q (List.mem_cons_of_mem _ hq)
    rw [List.map_cons, catF] at hc
    by_cases cv : (decide (y.startPc ≤ pc) && decide (pc < y.endPc)) = true
    · rw [if_pos cv] at hc
      obtain ⟨h0, C, hC, hl⟩ := hn _ List.mem_cons_self
      refine Or.inr ⟨cv, h0, ?_⟩
      by_cases e : nm y.catchType = x
      · rw [if_pos e] at hc
        rw [show nm (y.startPc, y.endPc, y.handlerPc, y.catchType).2.2.2 = x from e, hx] at hC
        cases hC
        obtain ⟨c3, c4, f1, f2, f3⟩ := Cond.castable_spec (rideL_at exN_cast hK.1 args _ (List.mem_map.mpr ⟨X, List.mem_of_getElem? hx, rfl⟩))
        cases hcx.symm.trans f1
        cases hcx.symm.trans f2
        exact ⟨X, cx, hK.1.all hl args, hcx, Or.inl ⟨f3, Option.some.inj hc⟩⟩
      · rw [if_neg e] at hc
        obtain ⟨c3, cT, f1, f2, f3⟩ := hK.2.2.1.2.2.2.2.2.2.1 X (List.mem_of_getElem? hx) C (List.mem_of_getElem? hC) (exN_ne hx hC (fun q => e q.symm))
        cases hcx.symm.trans f1
        exact ⟨C, cT, hK.1.all hl args, f2, Or.inr ⟨f3, Hit.of hK hx hcx t hn' hc⟩⟩
    · rw [if_neg cv] at hc
      refine Or.inl ⟨by simpa [covers] using cv, Hit.of hK hx hcx t hn' hc⟩
/-- the object's class, in the heap -/
def xok (p : Nat) : Bool := (p == 3) || (decide (38 ≤ p) && decide (p ≤ 42))
theorem Rel.exc (hK : KK Γ s) (hR : Rel Γ ad μ H) (hl : Lv μ (p, i)) (hp : xok p = true) : ∃ X cx cell, exN[xcl p]? = some X ∧ s.vm.findClass X = some cx ∧ H[ad p i]? = some cell ∧ cell.cls = cx ∧ (∀ k, cell.vm ≠ .statics k) ∧ ∃ k, s.vm.classes[cx]? = some k := by
  have hp' : p = 3 ∨ p = 38 ∨ p = 39 ∨ p = 40 ∨ p = 41 ∨ p = 42 := by
    simp only [xok, Bool.or_eq_true, Bool.and_eq_true, decide_eq_true_eq, beq_iff_eq] at hp
    omega
  have known : ∀ {ci : Nat} {r : vw_C}, cl[ci]? = some r → s.vm.findClass r.1 = some (Γ.1.1 ci) ∧ ∃ k, s.vm.classes[Γ.1.1 ci]? = some k := fun hc => by
    obtain ⟨-, h2, kC, hkC, -⟩ := hK.2.1.1 _ _ hc
    exact ⟨h2, kC, hkC⟩
  have obj : ∀ {ci : Nat} {r : vw_C}, kd p = .inl ci → cl[ci]? = some r → exN[xcl p]? = some r.1 → ∃ X cx cell, exN[xcl p]? = some X ∧ s.vm.findClass X = some cx ∧ H[ad p i]? = some cell ∧ cell.cls = cx ∧ (∀ k, cell.vm ≠ .statics k) ∧ ∃ k, s.vm.classes[cx]? = some k := fun hkd hc he => by
    obtain ⟨⟨cell, q1, q2, q3, -⟩, -⟩ := hR.obj hl hkd hc
    exact ⟨_, _, cell, he, (known hc).1, q1, q2, (fun k q => by rw [q3] at q; cases q), (known hc).2⟩
  have opq : ∀ {ci : Nat} {r : vw_C}, kd p = .inr (ci, 3) → cl[ci]? = some r → exN[xcl p]? = some r.1 → ∃ X cx cell, exN[xcl p]? = some X ∧ s.vm.findClass X = some cx ∧ H[ad p i]? = some cell ∧ cell.cls = cx ∧ (∀ k, cell.vm ≠ .statics k) ∧ ∃ k, s.vm.classes[cx]? = some k := fun hkd hc he => by
    have h2 := (hR.2.2.1 p i (kd_ne0A hkd) hl).2
    unfold Cel at h2
    rw [hkd] at h2
    obtain ⟨cell, q1, q2, q3, -⟩ := h2
    exact ⟨_, _, cell, he, (known hc).1, q1, q2, (fun k q => by rw [q3] at q; cases q), (known hc).2⟩
  rcases hp' with rfl | rfl | rfl | rfl | rfl | rfl
  · exact obj (ci := 2) rfl rfl rfl
  · exact opq (ci := 16) rfl rfl rfl
  · exact opq (ci := 17) rfl rfl rfl
  · exact opq (ci := 18) rfl rfl rfl
  · exact opq (ci := 19) rfl rfl rfl
  · exact opq (ci := 20) rfl rfl rfl
/-- what follows a throw at a place: caught at a handler, or not -/
def Thr (own : String) (cc : ByteArray) (mm : MM) (E : Ex) (k n pc : Nat) (ls : List (Option AV)) (nm : Nat → Nat) (x : Nat × Nat) (μ : Mem) : Prop :=
  (Unc mm pc ∧ eQ E (.inr x) μ) ∨ (xok x.1 = true ∧ NMok own nm mm.2.2.1 ∧ ∃ h, catF nm (xcl x.1) pc mm.2.2.1 = some h ∧ Z own cc mm E k n μ h ls [vo (some x)])
theorem z_callH {mk : MethodId} {as st0 : List AV} {y : MethodName} {cc' : ByteArray} {mm' : MM} (nm : Nat → Nat) (h : Hy own cc mm E μ ls st0 ad H locs la) (hlst : LvL μ st) (hlv : LvL μ as) (hcat : as.all isC1 = true) (hMD : MD y cc' mm') (hn : (cS E).methodNamed? y = some mk) (hlen : as.length ≤ mm'.1) (hrm : Rm mm mm' k n st.length) {ig : Instr} (hd : decode cc pc = .ok (ig, 3))
    (hct : Ct y.cls cc' mm' as μ (Kon own cc mm E (k + mm'.2.2.2.2.cells) (n + mm'.2.2.2.2.slots) (pc + 3) ls st (Thr own cc mm E (k + mm'.2.2.2.2.cells) (n + mm'.2.2.2.2.slots) pc ls nm))) {gf : JFrame}
    (hstep : ∀ T : State, T.heap = H → Stand (cP E) (cLa E) (cEn E) (cR E) (cS E) (cM E) (cAr E) (cB E) (cMe E) (cC E) T locs k n → ∃ vm', Stand (cP E) (cLa E) (cEn E) (cR E) (cS E) (cM E) (cAr E) (cB E) (cMe E) (cC E) (T.setVm vm') locs k n ∧
      ∀ target, (∀ acts, Steps (cP E).tables (cEn E) (cB E) (doInvoke (cEn E) ((T.setVm vm').setTop (F0 (cM E) pc la (st.map (cv ad)))) acts mk (as.map (cv ad)).toArray).1 target) → Steps (cP E).tables (cEn E) (cB E) (T.setTop gf) target) : Wc E H locs k n gf := by
  intro T hT X
  obtain ⟨vm', X1, s1⟩ := hstep T hT X
  obtain ⟨T', L, r, μ', ad', X', hL, hR, hXt, hMn, hQ, hW, hm⟩ := call_core h (T := T.setVm vm') hT X1 (g := F0 (cM E) pc la (st.map (cv ad))) rfl (h.lc.1.1.trans h.1.2.2.2.1.symm) (by rw [h.bs]; exact hd) hMD hn hlv (catOK_of hcat) hlen hrm.1
    (by
      have := cat_sum (st.map (cv ad))
      have h2 := hrm.2.1
      rw [List.length_map] at this
      show 2 * 0 + ((st.map (cv ad)).map fun v => v.category).sum + _ + _ ≤ _
      omega) hrm.2.2.1 hrm.2.2.2 hct
  have hs' : LvL μ' st := hlst.mn hMn
  match r, hQ, hm with
  | .inl none, hQ, hm =>
    obtain ⟨t, a, b⟩ := hQ ad' T'.heap (locs ++ L) la (h.ret hL hR hXt hMn hs') T' rfl X'
    refine ⟨t, s1 t (fun acts => hm.2 t acts ?_), b⟩
    rw [hXt.lst hlst] at a
    exact a
  | .inl (some v), hQ, hm =>
    obtain ⟨t, a, b⟩ := hQ ad' T'.heap (locs ++ L) la (h.ret hL hR hXt hMn (LvL.cons (hm.1 v rfl) hs')) T' rfl X'
    refine ⟨t, s1 t (fun acts => hm.2 t acts ?_), b⟩
    rw [List.map_cons, hXt.lst hlst] at a
    exact a
  | .inr x, hQ, hm =>
    rcases hQ with hQ | ⟨hx, hnm, hpc, hcat', hz⟩
    · obtain ⟨b1, b2, b3, b4, b5⟩ := X'.leaveThrown (ad' x.1 x.2) (g := F0 (cM E) pc la (st.map (cv ad))) rfl rfl rfl (h.unc hQ.1) h.lk
      have hH := h.ret (st' := st) hL hR hXt hMn hs'
      exact ⟨_, s1 _ (fun acts => hm.2 _ acts b1), .threw (ad' x.1 x.2), locs ++ L, b2, b3, b4, b5.mono (by rw [h.rm]; exact hrm.2.2.1) (by rw [h.rm]; exact hrm.2.2.2), hH.2.2.1, .inr x, μ', ad', hR, hH.2.1.2, hH.2.1.1, ⟨rfl, hm.1⟩, hQ.2⟩
    · obtain ⟨X0, cx, cell, e1, e2, e3, e4, e5, e6⟩ := Rel.exc (p := x.1) (i := x.2) h.kk hR hm.1 hx
      have hpl : (cEn E).platform.magicAccessors = ({} : Platform).magicAccessors := by rw [X'.admits.platform]
      have hit : Hit own (cAr E) (cS E) cx pc hpc (cC E).exceptionTable.toList := Hit.of h.kk e1 e2 _ (by rw [h.et]; exact hnm) (by rw [h.et]; exact hcat')
      obtain ⟨vm2, w1, w2⟩ := fh_go (g := F0 (cM E) pc la (st.map (cv ad))) (a := ad' x.1 x.2) (cell := cell) hpl h.ow e4 e5 e6 _ hit ((T'.setTop (F0 (cM E) pc la (st.map (cv ad)))).pushFrame (.throwing (ad' x.1 x.2)))
        (by rw [throwing_vm]; exact X'.warmed) (by rw [throwing_heap]; exact e3)
      have X2 := X'.noted w1
      obtain ⟨t, a, b⟩ := hz ad' T'.heap (locs ++ L) la (h.ret hL hR hXt hMn (LvL.cons hm.1 LvL.nil)) (T'.setVm vm2) rfl X2
      refine ⟨t, s1 t (fun acts => hm.2 t acts (catch_step (s := T') X'.here (pc := hpc) (vm' := vm2) (fun Q E' d acts => ?_) a)), b⟩
      rw [W.findHandler_eq (by rw [throwing_vm]; exact X'.method') X'.code]
      exact w2 Q E' d acts
theorem z_invVH {as st0 : List AV} {idx ci : Nat} {y : MethodName} {cc' : ByteArray} {mm' : MM} (nm : Nat → Nat) (hMD : MD y cc' mm') (hcv : CV own idx ci y as.length) (hp : kd p = .inl ci) (hd : decode cc pc = .ok (.invokevirtual idx, 3)) (hcat : as.all isC1 = true) (hlen : as.length + 1 ≤ mm'.1) (hrm : Rm mm mm' k n st.length) (hst : st0 = as.reverse ++ vr p i :: st)
    (hct : Ct y.cls cc' mm' (vr p i :: as) μ (Kon own cc mm E (k + mm'.2.2.2.2.cells) (n + mm'.2.2.2.2.slots) (pc + 3) ls st (Thr own cc mm E (k + mm'.2.2.2.2.cells) (n + mm'.2.2.2.2.slots) pc ls nm))) : Z own cc mm E k n μ pc ls st0 := by
  subst hst
  intro ad H locs la h
  have hX : XW (cS E) := h.kk.1
  obtain ⟨r, hc, w1, w2, w3, w4⟩ := hcv
  have hr : LvV μ (vr p i) := h.lst _ (List.mem_append_right _ List.mem_cons_self)
  have hs2 : LvL μ st := fun v hv => h.lst v (List.mem_append_right _ (List.mem_cons_of_mem _ hv))
  have has : LvL μ as := fun v hv => h.lst v (List.mem_append_left _ (List.mem_reverse.mpr hv))
  obtain ⟨mk, methM, hnamed, hmethM, hstM, habM⟩ := Cond.instanceMethod_spec (hX.all w2 (cAr E))
  refine z_callH nm h hs2 (LvL.cons hr has) (by show (true && as.all isC1) = true; rw [hcat]; rfl) hMD hnamed hlen hrm hd hct fun T hT X => ?_
  obtain ⟨mk', methk, ck, hn', hm', -, -, -, -, -, -, hsig⟩ := hMD.at hX
  cases hnamed.symm.trans hn'
  cases hmethM.symm.trans hm'
  obtain ⟨⟨cell, g1, g2, g3, -⟩, -⟩ := h.rel.obj hr hp hc
  have hcls : (cS E).vm.findClass r.1 = some cell.cls := by rw [g2]; exact (h.kk.2.1.1 ci r hc).2.1
  obtain ⟨c2, r2, m2, q1, q2, q3, q4, kP, hkP, hkPi⟩ := Cond.selects_spec (hX.all w3 (cAr E))
  cases hcls.symm.trans q1
  cases (State.methodFound?_of_named hnamed hMD.2.2.1).symm.trans q2
  cases hnamed.symm.trans q3
  have hselP : selectMethod (cEn E).platform (cS E).vm cell.cls mk = .method mk := by rw [Launch.admits_selectMethod X.admits]; exact q4
  rw [hsig] at w4
  have hl : (as.map (cv ad)).length = methM.sig.parameters.length := by rw [List.length_map]; exact (Option.some.inj w4).symm
  exact X.invokevirtual h.ex h.ow (hX.all w1 _) hnamed hmethM hstM hkP hkPi hMD.2.2.1 (a := ad p i) (cell := cell) (by rw [hT]; exact g1) (fun z q => by rw [g3] at q; cases q) hselP hmethM habM hkP hkPi (g := F0 (cM E) pc la ((as.reverse ++ vr p i :: st).map (cv ad))) rfl (argsL := as.map (cv ad)) (rest := st.map (cv ad)) hl
    (by show (as.reverse ++ vr p i :: st).map (cv ad) = _; rw [List.map_append, List.map_reverse]; rfl) (by rw [h.bs]; exact hd)
theorem z_invVH0 {idx ci : Nat} {y : MethodName} {cc' : ByteArray} {mm' : MM} (nm : Nat → Nat) (hMD : MD y cc' mm') (hcv : CV own idx ci y 0) (hp : kd p = .inl ci) (hd : decode cc pc = .ok (.invokevirtual idx, 3)) (hcat : ([] : List AV).all isC1 = true) (hlen : 1 ≤ mm'.1) (hrm : Rm mm mm' k n st.length) (hct : Ct y.cls cc' mm' (vr p i :: []) μ (Kon own cc mm E (k + mm'.2.2.2.2.cells) (n + mm'.2.2.2.2.slots) (pc + 3) ls st (Thr own cc mm E (k + mm'.2.2.2.2.cells) (n + mm'.2.2.2.2.slots) pc ls nm))) : Z own cc mm E k n μ pc ls (vr p i :: st) := z_invVH (as := []) nm hMD hcv hp hd hcat hlen hrm rfl hct
theorem z_invVH1 {a1 : AV} {idx ci : Nat} {y : MethodName} {cc' : ByteArray} {mm' : MM} (nm : Nat → Nat) (hMD : MD y cc' mm') (hcv : CV own idx ci y 1) (hp : kd p = .inl ci) (hd : decode cc pc = .ok (.invokevirtual idx, 3)) (hcat : ([a1] : List AV).all isC1 = true) (hlen : 2 ≤ mm'.1) (hrm : Rm mm mm' k n st.length) (hct : Ct y.cls cc' mm' (vr p i :: [a1]) μ (Kon own cc mm E (k + mm'.2.2.2.2.cells) (n + mm'.2.2.2.2.slots) (pc + 3) ls st (Thr own cc mm E (k + mm'.2.2.2.2.cells) (n + mm'.2.2.2.2.slots) pc ls nm))) : Z own cc mm E k n μ pc ls (a1 :: vr p i :: st) := z_invVH (as := [a1]) nm hMD hcv hp hd hcat hlen hrm rfl hct
theorem z_invVH2 {a1 a2 : AV} {idx ci : Nat} {y : MethodName} {cc' : ByteArray} {mm' : MM} (nm : Nat → Nat) (hMD : MD y cc' mm') (hcv : CV own idx ci y 2) (hp : kd p = .inl ci) (hd : decode cc pc = .ok (.invokevirtual idx, 3)) (hcat : ([a1, a2] : List AV).all isC1 = true) (hlen : 3 ≤ mm'.1) (hrm : Rm mm mm' k n st.length) (hct : Ct y.cls cc' mm' (vr p i :: [a1, a2]) μ (Kon own cc mm E (k + mm'.2.2.2.2.cells) (n + mm'.2.2.2.2.slots) (pc + 3) ls st (Thr own cc mm E (k + mm'.2.2.2.2.cells) (n + mm'.2.2.2.2.slots) pc ls nm))) : Z own cc mm E k n μ pc ls (a2 :: a1 :: vr p i :: st) := z_invVH (as := [a1, a2]) nm hMD hcv hp hd hcat hlen hrm rfl hct
theorem z_invVH3 {a1 a2 a3 : AV} {idx ci : Nat} {y : MethodName} {cc' : ByteArray} {mm' : MM} (nm : Nat → Nat) (hMD : MD y cc' mm') (hcv : CV own idx ci y 3) (hp : kd p = .inl ci) (hd : decode cc pc = .ok (.invokevirtual idx, 3)) (hcat : ([a1, a2, a3] : List AV).all isC1 = true) (hlen : 4 ≤ mm'.1) (hrm : Rm mm mm' k n st.length) (hct : Ct y.cls cc' mm' (vr p i :: [a1, a2, a3]) μ (Kon own cc mm E (k + mm'.2.2.2.2.cells) (n + mm'.2.2.2.2.slots) (pc + 3) ls st (Thr own cc mm E (k + mm'.2.2.2.2.cells) (n + mm'.2.2.2.2.slots) pc ls nm))) : Z own cc mm E k n μ pc ls (a3 :: a2 :: a1 :: vr p i :: st) := z_invVH (as := [a1, a2, a3]) nm hMD hcv hp hd hcat hlen hrm rfl hct
theorem z_invVH4 {a1 a2 a3 a4 : AV} {idx ci : Nat} {y : MethodName} {cc' : ByteArray} {mm' : MM} (nm : Nat → Nat) (hMD : MD y cc' mm') (hcv : CV own idx ci y 4) (hp : kd p = .inl ci) (hd : decode cc pc = .ok (.invokevirtual idx, 3)) (hcat : ([a1, a2, a3, a4] : List AV).all isC1 = true) (hlen : 5 ≤ mm'.1) (hrm : Rm mm mm' k n st.length) (hct : Ct y.cls cc' mm' (vr p i :: [a1, a2, a3, a4]) μ (Kon own cc mm E (k + mm'.2.2.2.2.cells) (n + mm'.2.2.2.2.slots) (pc + 3) ls st (Thr own cc mm E (k + mm'.2.2.2.2.cells) (n + mm'.2.2.2.2.slots) pc ls nm))) : Z own cc mm E k n μ pc ls (a4 :: a3 :: a2 :: a1 :: vr p i :: st) := z_invVH (as := [a1, a2, a3, a4]) nm hMD hcv hp hd hcat hlen hrm rfl hct
theorem z_invVH5 {a1 a2 a3 a4 a5 : AV} {idx ci : Nat} {y : MethodName} {cc' : ByteArray} {mm' : MM} (nm : Nat → Nat) (hMD : MD y cc' mm') (hcv : CV own idx ci y 5) (hp : kd p = .inl ci) (hd : decode cc pc = .ok (.invokevirtual idx, 3)) (hcat : ([a1, a2, a3, a4, a5] : List AV).all isC1 = true) (hlen : 6 ≤ mm'.1) (hrm : Rm mm mm' k n st.length) (hct : Ct y.cls cc' mm' (vr p i :: [a1, a2, a3, a4, a5]) μ (Kon own cc mm E (k + mm'.2.2.2.2.cells) (n + mm'.2.2.2.2.slots) (pc + 3) ls st (Thr own cc mm E (k + mm'.2.2.2.2.cells) (n + mm'.2.2.2.2.slots) pc ls nm))) : Z own cc mm E k n μ pc ls (a5 :: a4 :: a3 :: a2 :: a1 :: vr p i :: st) := z_invVH (as := [a1, a2, a3, a4, a5]) nm hMD hcv hp hd hcat hlen hrm rfl hct
theorem z_invVH6 {a1 a2 a3 a4 a5 a6 : AV} {idx ci : Nat} {y : MethodName} {cc' : ByteArray} {mm' : MM} (nm : Nat → Nat) (hMD : MD y cc' mm') (hcv : CV own idx ci y 6) (hp : kd p = .inl ci) (hd : decode cc pc = .ok (.invokevirtual idx, 3)) (hcat : ([a1, a2, a3, a4, a5, a6] : List AV).all isC1 = true) (hlen : 7 ≤ mm'.1) (hrm : Rm mm mm' k n st.length) (hct : Ct y.cls cc' mm' (vr p i :: [a1, a2, a3, a4, a5, a6]) μ (Kon own cc mm E (k + mm'.2.2.2.2.cells) (n + mm'.2.2.2.2.slots) (pc + 3) ls st (Thr own cc mm E (k + mm'.2.2.2.2.cells) (n + mm'.2.2.2.2.slots) pc ls nm))) : Z own cc mm E k n μ pc ls (a6 :: a5 :: a4 :: a3 :: a2 :: a1 :: vr p i :: st) := z_invVH (as := [a1, a2, a3, a4, a5, a6]) nm hMD hcv hp hd hcat hlen hrm rfl hct
theorem z_invVH7 {a1 a2 a3 a4 a5 a6 a7 : AV} {idx ci : Nat} {y : MethodName} {cc' : ByteArray} {mm' : MM} (nm : Nat → Nat) (hMD : MD y cc' mm') (hcv : CV own idx ci y 7) (hp : kd p = .inl ci) (hd : decode cc pc = .ok (.invokevirtual idx, 3)) (hcat : ([a1, a2, a3, a4, a5, a6, a7] : List AV).all isC1 = true) (hlen : 8 ≤ mm'.1) (hrm : Rm mm mm' k n st.length) (hct : Ct y.cls cc' mm' (vr p i :: [a1, a2, a3, a4, a5, a6, a7]) μ (Kon own cc mm E (k + mm'.2.2.2.2.cells) (n + mm'.2.2.2.2.slots) (pc + 3) ls st (Thr own cc mm E (k + mm'.2.2.2.2.cells) (n + mm'.2.2.2.2.slots) pc ls nm))) : Z own cc mm E k n μ pc ls (a7 :: a6 :: a5 :: a4 :: a3 :: a2 :: a1 :: vr p i :: st) := z_invVH (as := [a1, a2, a3, a4, a5, a6, a7]) nm hMD hcv hp hd hcat hlen hrm rfl hct
end ZK
