/-! the making of the JDK's exceptions -/
def exA (own : String) (ic : Nat) (X : String) (names : List String) : List Cond :=
  Bundle.chain0Atoms X names ++
  [.methodLink own ic (Bundle.init0 X), .instantiable X 6, .selects X Bundle.tFill0 Bundle.tFill0, .selects X Bundle.tFill Bundle.tFill,
   .lays X Bundle.tN "cause" "Ljava/lang/Throwable;", .lays X Bundle.tN "stackTrace" Bundle.steD, .lays X Bundle.tN "suppressedExceptions" Bundle.listD,
   .fieldLink Bundle.tN 198 Bundle.tN "backtrace" "Ljava/lang/Object;", .lays Bundle.tN Bundle.tN "backtrace" "Ljava/lang/Object;", .lays X Bundle.tN "backtrace" "Ljava/lang/Object;"]
def rfV (r : Option Nat) : RefV := ⟨va_rf r, by cases r <;> rfl⟩
set_option maxHeartbeats 1000000 in
theorem exc_init {p : Program} {l : Launch} {e : Env} {R : Room} {s : State} {m₀ : MethodId} {args : Array Value} {below : List Frame} {meth : Method} {c : Code} {W : State} {locs : List Loc} {cells slots : Nat}
    (X : Stand p l e R s m₀ args below meth c W locs cells slots) (hexec : p.tables.exec = Jvm.exec) (htr : e.platform.stackTraces = false) {own cls : String} {names : List String} {ic : Nat}
    (hown : s.vm.findClass own = some m₀.cls) (hcls : Bundle.fit cls = true) (hnames : ∀ n ∈ names, Bundle.fit n = true)
    (hT : ∀ a ∈ Bundle.throwableAtoms, a.before args s = true) (h : ∀ a ∈ exA own ic cls names, a.before args s = true)
    {ru rs : Option Nat} (zU : va_Z "java/lang/Throwable" "UNASSIGNED_STACK" "[Ljava/lang/StackTraceElement;" (va_rf ru) nA s W.heap) (zS : va_Z "java/lang/Throwable" "SUPPRESSED_SENTINEL" "Ljava/util/List;" (va_rf rs) nA s W.heap)
    {a : Addr} {cX : ClassId} {kX : Class} (hfoundX : s.vm.findClass cls = some cX) (hkX : s.vm.classes[cX]? = some kX) (hcell : W.heap[a]? = some (freshCell cX kX))
    {g : JFrame} (hg : g.method = m₀) (hsize : g.locals.size = c.maxLocals) {rest : List Value} (hstack : g.stack = .ref a :: rest)
    (hd6 : decode c.code g.pc = .ok (.invokespecial ic, 3))
    (hRframes : names.length + 3 < R.frames) (hRlocals : 2 * g.monitorRoom + (rest.map fun v => v.category).sum + (13 * (names.length + 1) + 41) ≤ R.locals) :
    ∃ (vm' : Vm) (x : Cell) (L : List Loc), (∀ y ∈ L, y.base = a) ∧ Stand p l e R s m₀ args below meth c ((W.setVm vm').setCell a x) (locs ++ L) cells slots ∧ x.cls = cX ∧ x.vm = .none ∧ x.monitor = (freshCell cX kX).monitor ∧ x.slots.size = 6 ∧
      ∀ target, Steps p.tables e below (((W.setVm vm').setCell a x).setTop { g with pc := g.pc + 3, stack := rest }) target → Steps p.tables e below (W.setTop g) target := by
  have howns : e.platform.frameOwnsMonitors = true := by rw [X.admits.platform]
  have hfin : e.platform.finalization = false := by rw [X.admits.platform]
  have hpl : e.platform.magicAccessors = ({} : Platform).magicAccessors := by rw [X.admits.platform]
  have a' : ∀ x, x ∈ exA own ic cls names → x.holds args s none s [] = true := fun x hx => h x hx
  obtain ⟨T, Z, L, LZ, Y⟩ := ThrowableC.of_atoms (args := args) howns hfin hpl hT
  obtain ⟨P1, Ps, hlen, L1, hL, hP1m, hlink1, hlink⟩ := Bundle.chain0 (args := args) hpl Y.init0 names cls hcls hnames (fun x hx => h x (List.mem_append_left _ hx))
  have hfound : s.vm.findClass cls = some P1.m.cls := findClass_of_methodNamed hP1m
  cases Option.some.inj (hfoundX.symm.trans hfound)
  obtain ⟨c1, kX', hc1, hk, hord, -, -, hn6⟩ := Cond.instantiable_spec (a' (.instantiable cls 6) (by simp [exA]))
  cases Option.some.inj (hc1.symm.trans hfound)
  cases Option.some.inj (hkX.symm.trans hk)
  have hsel0 : selectMethod e.platform s.vm P1.m.cls T.fill0 = .method T.fill0 := by
    obtain ⟨c2, r2, m2, q1, q2, q3, q4, -⟩ := Cond.selects_spec (a' (.selects cls Bundle.tFill0 Bundle.tFill0) (by simp [exA]))
    cases Option.some.inj (q1.symm.trans hfound)
    cases Option.some.inj (q2.symm.trans (State.methodFound?_of_named Y.fill0 (by decide)))
    cases Option.some.inj (q3.symm.trans Y.fill0)
    rw [Launch.admits_selectMethod X.admits]; exact q4
  have hselF : selectMethod e.platform s.vm P1.m.cls T.fill = .method T.fill := by
    obtain ⟨c2, r2, m2, q1, q2, q3, q4, -⟩ := Cond.selects_spec (a' (.selects cls Bundle.tFill Bundle.tFill) (by simp [exA]))
    cases Option.some.inj (q1.symm.trans hfound)
    cases Option.some.inj (q2.symm.trans (State.methodFound?_of_named Y.fill (by decide)))
    cases Option.some.inj (q3.symm.trans Y.fill)
    rw [Launch.admits_selectMethod X.admits]; exact q4
  obtain ⟨cf1, kf1, fi1, f1, aU, cellU, u1, u2, u3, u4, u5, u6, u7, -⟩ := zU
  obtain ⟨cf2, kf2, fi2, f2, aS, cellS, v1, v2, v3, v4, v5, v6, v7, -⟩ := zS
  cases Option.some.inj (u1.symm.trans Y.unassigned)
  cases Option.some.inj (v1.symm.trans Y.sentinel)
  cases Option.some.inj (u4.symm.trans L.statics)
  cases Option.some.inj (v4.symm.trans L.statics)
  cases Option.some.inj (u5.symm.trans v5)
  obtain ⟨ci198, i198, fB, hk198, hg198, ha198, hsB, -, hnB, htB, hffB⟩ := Cond.ownField (t := .object "java/lang/Object") Y.found L.cls (by decide +kernel) (a' (.fieldLink Bundle.tN 198 Bundle.tN "backtrace" "Ljava/lang/Object;") (by simp [exA])) (a' (.lays Bundle.tN Bundle.tN "backtrace" "Ljava/lang/Object;") (by simp [exA])) e.platform hpl
  have hknownS : cellU.vm ≠ .unknown := by
    intro hu
    rw [hu] at u6
    cases u6
  have hneS : T.aS ≠ a := fun q => by
    rw [q, hcell] at u5
    cases u5
    cases u6
  obtain ⟨tyC, dC, hdC, hdnC⟩ := Cond.laysAt hfound hk Y.cause (a' (.lays cls Bundle.tN "cause" "Ljava/lang/Throwable;") (by simp [exA]))
  obtain ⟨tyS, dS, hdS, hdnS⟩ := Cond.laysAt hfound hk Y.stack (a' (.lays cls Bundle.tN "stackTrace" Bundle.steD) (by simp [exA]))
  obtain ⟨tyP, dP, hdP, hdnP⟩ := Cond.laysAt hfound hk Y.supp (a' (.lays cls Bundle.tN "suppressedExceptions" Bundle.listD) (by simp [exA]))
  obtain ⟨tyB, dB, hdB, hdnB⟩ := Cond.laysAt hfound hk hffB (a' (.lays cls Bundle.tN "backtrace" "Ljava/lang/Object;") (by simp [exA]))
  have bC := Cond.laysApart hdB hdC hdnB hdnC (by rw [hnB, Y.causeName]; decide)
  have bS := Cond.laysApart hdB hdS hdnB hdnS (by rw [hnB, Y.stackName]; decide)
  have bP := Cond.laysApart hdB hdP hdnB hdnP (by rw [hnB, Y.suppName]; decide)
  have hskip : SkipFacts T e.platform s (fun u => u) (rfV ru) ((preparedCellV T.toThrowableT (freshCell P1.m.cls kX) a (rfV ru) (rfV rs)).withEntry W.cur) :=
    ⟨{ ci198 := ci198, i198 := i198, fBack := fB }, ⟨hk198, hg198, ha198, hsB⟩, by
      have := fresh_default (c := P1.m.cls) tyB
      rw [htB] at this
      simpa [preparedCellV, Cell.setSlot, Cell.withEntry, Array.getElem?_setIfInBounds, bC, bS, bP, bC.symm, bS.symm, bP.symm, defaultValue] using this, fun _ _ => rfl⟩
  obtain ⟨tm, methC, cdC, kC, vm₁, hnC, -, -, -, -, -, -, -, hW₁, st1⟩ := Steps.initCold (tb := p.tables) (e := e) (below := below) (s := s) (U := W) X.here hexec X.warmed hpl hown (t := Bundle.init0 cls) rfl rfl (Bundle.fit_spec hcls).2
    (a' (.methodLink own ic (Bundle.init0 cls)) (by simp [exA])) (h (.instanceMethod (Bundle.init0 cls)) (by cases names <;> simp [exA, Bundle.chain0Atoms, Bundle.passAtoms])) (bytes := Bundle.five) (maxL := 1) (h (.code (Bundle.init0 cls) Bundle.five 1 none) (by cases names <;> simp [exA, Bundle.chain0Atoms, Bundle.passAtoms]))
    (f := g) hg (a := a) (rest := rest) hstack hd6
  cases Option.some.inj (hnC.symm.trans hP1m)
  have X₁ := X.noted hW₁
  obtain ⟨vm₂, X₂, st2⟩ := X₁.ctorPlainOffV hexec (g := { g with stack := rest }) hg hsize T L Z LZ (P1 :: Ps)
    (fun P hP => by rcases List.mem_cons.mp hP with rfl | hP; exact L1; exact hL P hP) ⟨hlink1, hlink⟩ (u0 := rfV ru) (sen := rfV rs) (self := a) (cell := freshCell P1.m.cls kX) (cellS := cellU)
    hcell (fun _ => by simp) (by simp) rfl rfl hsel0 hselF u5 hneS hknownS u7 v7
    (Takes.of_laid hk hord tyC (by rw [Y.causeType]; rfl)) (Takes.of_laid hk hord tyS (by rw [Y.stackType]; exact fits_refV_array _ (rfV ru))) (Takes.of_laid hk hord tyP (by rw [Y.suppType]; exact fits_refV_object _ (rfV rs))) Y.objLocals hskip htr [] hd6
    (by simp only [List.length_cons, hlen]; omega) (by simp only [List.length_cons, hlen]; exact hRlocals)
  refine ⟨vm₂, _, _, ?_, X₂, rfl, rfl, rfl, by simp [preparedCellV, Cell.setSlot, hn6], fun target hrest => st1 _ (fun acts => ?_)⟩
  · intro y hy
    simp only [List.mem_cons, List.not_mem_nil, or_false] at hy
    rcases hy with rfl | rfl | rfl | rfl <;> rfl
  · rw [doInvoke_state]
    exact st2 _ hrest
section ZE
variable {own : String} {cc : ByteArray} {mm : MM} {E : Ex} {k n : Nat} {μ μ' : Mem} {pc : Nat} {ls : List (Option AV)} {st : List AV} {ad ad' : Ad} {H H' : Heap} {locs : List Loc} {la : Array Slot} {Γ : Gx} {p i : Nat}
theorem Hy.tr (h : Hy own cc mm E μ ls st ad H locs la) : (cLa E).stackTraces = false := h.1.2.2.2.2.2.2.2.2.2.1
theorem Hy.lsw (h : Hy own cc mm E μ ls st ad H locs la) (A : Array Value) {w : Cond} (hw : w ∈ lsL) : w.before A (cS E) = true := by
  have h8 := h.kk.2.2.1.2.2.2.2.2.2.2 w hw
  have hh := h.kk.2.2.2
  have key : ∀ o n d, (Cond.laysStatic o n d).before #[] (atH (gH E.1) (cS E)) = true → (Cond.laysStatic o n d).before A (cS E) = true := by
    intro o n d q
    simp only [Cond.before, Cond.holds, Cond.value, atH, State.fieldFound?] at q ⊢
    revert q
    split
    · rename_i c c' k' i' f' e1 e2
      cases hs : k'.statics with
      | none => simp
      | some a =>
        simp only [Option.bind_some]
        cases hc : (gH E.1)[a]? with
        | none => simp
        | some cell =>
          rw [hh a (Array.getElem?_eq_some_iff.mp hc).1, hc]
          exact id
    · simp
  unfold lsL at hw
  rcases List.mem_cons.mp hw with e | hw
  · subst e; exact key _ _ _ h8
  · rcases List.mem_cons.mp hw with e | hw
    · subst e; exact key _ _ _ h8
    · cases hw
/-- the words ride -/
def rideL (ws : List Cond) : Bool := ws.all (fun w => decide (w ∈ lw_tbl) && rideW w)
theorem rideL_at {ws : List Cond} (hr : rideL ws = true) {U : State} (hX : XW U) (A : Array Value) : ∀ w ∈ ws, w.before A U = true := fun w hw => by
  have := List.all_eq_true.mp hr w hw
  simp only [Bool.and_eq_true, decide_eq_true_eq] at this
  exact hX.1 w this.1 this.2 A
def thA : List Cond := Bundle.throwableAtoms.filter (fun w => !decide (w ∈ lsL))
theorem thA_ok : rideL thA = true := by decide +kernel
theorem Hy.th (h : Hy own cc mm E μ ls st ad H locs la) : ∀ a ∈ Bundle.throwableAtoms, a.before (cAr E) (cS E) = true := fun a ha => by
  by_cases q : a ∈ lsL
  · exact h.lsw _ q
  · exact rideL_at thA_ok h.kk.1 _ a (List.mem_filter.mpr ⟨ha, by simp [q]⟩)
/-- new X, dup, its constructor -/
def EX (own : String) (idx ic ci : Nat) (X : String) (names : List String) : Prop := (∃ T, cl[ci]? = some (X, T, 6)) ∧ Cond.classLink own idx X ∈ lw_all ∧ Cond.instantiable X 6 ∈ lw_all ∧ Cond.initialized X ∈ lw_all ∧ Bundle.fit X = true ∧ (∀ n ∈ names, Bundle.fit n = true) ∧ rideL (exA own ic X names) = true
theorem z_exc {idx ic ci : Nat} {X : String} {names : List String} (p : Nat) (hx : EX own idx ic ci X names) (hd : decode cc pc = .ok (.new idx, 3)) (hd3 : decode cc (pc + 3) = .ok (.dup, 1)) (hd4 : decode cc (pc + 4) = .ok (.invokespecial ic, 3)) (hp : kd p = .inr (ci, 3)) (hp2 : ¬ (p = 27 ∨ p = 46)) (hfl : fl p = 0)
    (hk : k + 1 ≤ mm.2.2.2.2.cells) (hn : n + 6 ≤ mm.2.2.2.2.slots) (hf : names.length + 3 < mm.2.2.2.2.frames) (hl : 2 * st.length + 2 + (13 * (names.length + 1) + 41) ≤ mm.2.2.2.2.locals)
    (kk : Z own cc mm E (k + 1) (n + 6) (nw μ p 0) (pc + 7) ls (vr p (gC μ p) :: st)) : Z own cc mm E k n μ pc ls st := by
  intro ad H locs la h
  obtain ⟨⟨T, hc⟩, w1, w2, w3, hfit, hfits, hw⟩ := hx
  have hX : XW (cS E) := h.kk.1
  have hKn := h.kk.2.1.1 ci _ hc
  have hts : ∀ w ∈ lw_all, w.before (cAr E) (cS E) = true := fun w hw => hX.all hw (cAr E)
  have hrm : cR E = mm.2.2.2.2 := h.rm
  refine W.newcK h.ex h.bs h.ow (hts _ w1) (hts _ w2) (hts _ w3) rfl hd (by rw [hrm]; exact hk) (by rw [hrm]; exact hn) hKn.2.1 rfl fun H' kC hkC e1 e2 e3 => ?_
  refine lv_dup h.ex h.bs hd3 rfl ?_
  intro T1 hT1 X1
  obtain ⟨ru, -, zU⟩ := h.kk.2.2.1.2.2.1
  obtain ⟨rs, -, zS⟩ := h.kk.2.2.1.2.2.2.1
  have hold : ∀ a : Nat, a < (gH E.1).size → ¬ nA a → T1.heap[a]? = (gH E.1)[a]? := fun a ha hn' => by
    rw [hT1, e3 a (Nat.lt_of_lt_of_le ha h.rel.1.2)]
    exact h.old a ha hn'
  have htr : (cEn E).platform.stackTraces = false := by rw [X1.admits.platform]; exact h.tr
  have hcat := cat_sum (st.map (cv ad))
  rw [List.length_map] at hcat
  obtain ⟨vm', x, L, hL, X2, q1, q2, q3, q4, hst⟩ := exc_init X1 h.ex htr h.ow hfit hfits h.th (rideL_at hw hX _) (va_Z.kept zU hold) (va_Z.kept zS hold) (a := H.size) hKn.2.1 hkC (by rw [hT1]; exact e1)
    (g := F0 (cM E) (pc + 4) la (.ref H.size :: .ref H.size :: st.map (cv ad))) rfl (h.lc.1.1.trans h.1.2.2.2.1.symm) (rest := .ref H.size :: st.map (cv ad)) rfl (by rw [h.bs]; exact hd4) (by rw [hrm]; exact hf)
    (by
      rw [hrm]
      show 2 * 0 + (1 + ((st.map (cv ad)).map fun v => v.category).sum) + _ ≤ _
      omega)
  have hT2 : ((T1.setVm vm').setCell H.size x).heap[H.size]? = some x := heapAt_setCell_self (s := T1.setVm vm') x (by show H.size < T1.heap.size; rw [hT1, e2]; omega)
  have hT3 : ∀ q, q < H.size → ((T1.setVm vm').setCell H.size x).heap[q]? = H[q]? := fun q hq => by
    rw [heapAt_setCell_ne (s := T1.setVm vm') x (Nat.ne_of_gt hq)]
    show T1.heap[q]? = _
    rw [hT1]; exact e3 q hq
  have hT4 : ((T1.setVm vm').setCell H.size x).heap.size = H.size + 1 := by
    have : ((T1.setVm vm').setCell H.size x).heap.size = (T1.setVm vm').heap.size := by simp [State.setCell]
    rw [this]
    show T1.heap.size = _
    rw [hT1, e2]
  have hR : Rel E.1 (upA ad p (gC μ p) H.size) (nw μ p 0) ((T1.setVm vm').setCell H.size x).heap := by
    refine h.rel.mk1 (kd_ne0A hp) (fun _ => hfl.symm) hT4 hT3 ?_
    unfold Cel
    rw [hp]
    refine ⟨x, by rw [upA_eq, if_pos ⟨rfl, rfl⟩]; exact hT2, q1, q2, ?_, q4⟩
    rw [q3]; exact ⟨rfl, rfl⟩
  have hmk := h.mk1 hR
  have hy2 : Hy own cc mm E (nw μ p 0) ls (vr p (gC μ p) :: st) (upA ad p (gC μ p) H.size) ((T1.setVm vm').setCell H.size x).heap (locs ++ L) la := by
    refine ⟨hmk.1, hmk.2.1, fun q hq => ?_, hmk.2.2.2⟩
    rcases List.mem_append.mp hq with z | z
    · exact hmk.2.2.1 q z
    · rw [hL q z]; exact h.rel.1.2
  have := kk (upA ad p (gC μ p) H.size) _ (locs ++ L) la hy2
  rw [List.map_cons, map_upA h.lst] at this
  have ev : cv (upA ad p (gC μ p) H.size) (vr p (gC μ p)) = .ref H.size := by
    show Value.ref (upA ad p (gC μ p) H.size p (gC μ p)) = _
    rw [upA_eq, if_pos ⟨rfl, rfl⟩]
  rw [ev] at this
  obtain ⟨t, b1, b2⟩ := this _ rfl X2
  exact ⟨t, hst _ b1, b2⟩
end ZE
