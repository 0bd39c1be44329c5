/-! returns, throws, calls -/
section ZC
variable {own : String} {cc : ByteArray} {mm : MM} {E : Ex} {k n : Nat} {μ μ' : Mem} {pc : Nat} {ls : List (Option AV)} {st : List AV} {ad ad' : Ad} {H H' : Heap} {locs : List Loc} {la : Array Slot} {Γ : Gx} {p i : Nat}
theorem W_mono {p : Program} {l : Launch} {e : Env} {R : Room} {s : State} {m : MethodId} {args : Array Value} {below : List Frame} {meth : Method} {c : Code} {H : Heap} {locs : List Loc} {cells slots : Nat} {Q Q' : State → Prop} {g : JFrame} (hQ : ∀ t, Q t → Q' t) (w : W p l e R s m args below meth c H locs cells slots Q g) : W p l e R s m args below meth c H locs cells slots Q' g := by
  intro T hT X
  obtain ⟨t, a, b⟩ := w T hT X
  exact ⟨t, a, hQ t b⟩
theorem Hy.rm (h : Hy own cc mm E μ ls st ad H locs la) : cR E = mm.2.2.2.2 := h.1.2.2.2.2.2.2.2.1
theorem Hy.rt (h : Hy own cc mm E μ ls st ad H locs la) : (cMe E).sig.returnType = mm.2.1 := h.1.2.2.2.2.1
theorem Hy.lk (h : Hy own cc mm E μ ls st ad H locs la) : (cMe E).locks = false := h.1.2.2.2.2.2.2.2.2.1
theorem Hy.kk (h : Hy own cc mm E μ ls st ad H locs la) : KK E.1 (cS E) := h.1.2.2.2.2.2.2.2.2.2.2
theorem Hy.et (h : Hy own cc mm E μ ls st ad H locs la) : (cC E).exceptionTable.toList.map (fun h => (h.startPc, h.endPc, h.handlerPc, h.catchType)) = mm.2.2.1 := h.1.2.2.2.2.2.1
theorem Hy.fin {r : Res} (h : Hy own cc mm E μ ls st ad H locs la) (hk : k ≤ mm.2.2.2.2.cells) (hn : n ≤ mm.2.2.2.2.slots) (hq : eQ E r μ) : ∀ t, MQ (cB E) (fun _ _ o t => t.heap = H ∧ RR ad μ r o) (cAr E) (cS E) k n (fun a => (gH E.1).size ≤ a) t → FinE E t := by
  rintro t ⟨o, h1, h2, ⟨h3, h4⟩, L, ⟨-, hW, hs⟩, hL⟩
  exact ⟨o, L, h1, h2, hW, hs.mono (by rw [h.rm]; exact hk) (by rw [h.rm]; exact hn), hL, r, μ, ad, by rw [h3]; exact h.rel, h.2.1.2, h.2.1.1, h4, hq⟩
theorem z_ireturn {x : Int32} (hd : decode cc pc = .ok (.ireturn, 1)) (hr : mm.2.1 = some .int) (hk : k ≤ mm.2.2.2.2.cells) (hn : n ≤ mm.2.2.2.2.slots) (hq : eQ E (.inl (some (vi x))) μ) : Z own cc mm E k n μ pc ls [vi x] :=
  fun ad H locs la h => W_mono (h.fin hk hn hq) (W.iret h.ex h.bs (h.rt.trans hr) (fun t ht hW => ⟨ht, rfl, trivial⟩) h.2.2.1 hd h.lk)
theorem z_zreturn {x : Int32} {ty : FieldType} (hd : decode cc pc = .ok (.ireturn, 1)) (hr : mm.2.1 = some ty) (hx : narrow ty (.int x) = .int x) (hk : k ≤ mm.2.2.2.2.cells) (hn : n ≤ mm.2.2.2.2.slots) (hq : eQ E (.inl (some (vi x))) μ) : Z own cc mm E k n μ pc ls [vi x] :=
  fun ad H locs la h => W_mono (h.fin hk hn hq) (W.zret h.ex h.bs (h.rt.trans hr) hx (fun t ht hW => ⟨ht, rfl, trivial⟩) h.2.2.1 hd h.lk)
theorem z_return (hd : decode cc pc = .ok (.return_, 1)) (hr : mm.2.1 = none) (hk : k ≤ mm.2.2.2.2.cells) (hn : n ≤ mm.2.2.2.2.slots) (hq : eQ E (.inl none) μ) : Z own cc mm E k n μ pc ls [] :=
  fun ad H locs la h => W_mono (h.fin hk hn hq) (W.vret h.ex h.bs (h.rt.trans hr) (fun t ht hW => ⟨ht, rfl⟩) h.2.2.1 hd h.lk)
theorem z_areturn {r : Option (Nat × Nat)} {ty : FieldType} (hd : decode cc pc = .ok (.areturn, 1)) (hr : mm.2.1 = some ty) (hty : (∃ n, ty = .object n) ∨ ∃ t, ty = .array t) (hk : k ≤ mm.2.2.2.2.cells) (hn : n ≤ mm.2.2.2.2.slots) (hq : eQ E (.inl (some (vo r))) μ) : Z own cc mm E k n μ pc ls [vo r] :=
  fun ad H locs la h => W_mono (h.fin hk hn hq) (W.aret h.ex h.bs (h.rt.trans hr) hty (cr_cases ad r) (fun t ht hW => ⟨ht, rfl, h.lst.hd⟩) h.2.2.1 hd h.lk)
/-- no entry of the method's table of handlers covers the place -/
def Unc (mm : MM) (pc : Nat) : Prop := mm.2.2.1.all (fun q => !(decide (q.1 ≤ pc) && decide (pc < q.2.1))) = true
theorem Hy.unc (h : Hy own cc mm E μ ls st ad H locs la) (hu : Unc mm pc) : ∀ x ∈ (cC E).exceptionTable.toList, covers x pc = false := by
  intro x hx
  unfold Unc at hu
  rw [← h.et] at hu
  have h1 := List.all_eq_true.mp hu _ (List.mem_map_of_mem hx)
  have h2 : pc < x.startPc ∨ x.endPc ≤ pc := by simpa using h1
  show (decide (x.startPc ≤ pc) && decide (pc < x.endPc)) = false
  rw [Bool.and_eq_false_iff]
  rcases h2 with q | q
  · left; exact decide_eq_false (by omega)
  · right; exact decide_eq_false (by omega)
theorem z_athrow (hd : decode cc pc = .ok (.athrow, 1)) (hu : Unc mm pc) (hk : k ≤ mm.2.2.2.2.cells) (hn : n ≤ mm.2.2.2.2.slots) (hq : eQ E (.inr (p, i)) μ) : Z own cc mm E k n μ pc ls (vr p i :: st) := by
  intro ad H locs la h T hT X
  obtain ⟨s1, s2, s3, s4, s5⟩ := X.athrowLeaves h.ex (g := F0 (cM E) pc la (.ref (ad p i) :: st.map (cv ad))) rfl rfl rfl (h.unc hu) rfl (by rw [h.bs]; exact hd) h.lk
  exact ⟨_, s1, .threw (ad p i), locs, s2, s3, s4, s5.mono (by rw [h.rm]; exact hk) (by rw [h.rm]; exact hn), h.2.2.1, .inr (p, i), μ, ad, by show Rel E.1 ad μ T.heap; rw [hT]; exact h.rel, h.2.1.2, h.2.1.1, ⟨rfl, h.lst.hd⟩, hq⟩
/-! a method's contract: what a call with these arguments, in this memory, comes to -/
def Ct (own : String) (cc : ByteArray) (mm : MM) (as : List AV) (μ : Mem) (Q : Res → Mem → Prop) : Prop :=
  ∀ (Γ : Gx) (C : Cx) (ad : Ad), Z own cc mm (Γ, C, μ, ad, Q) 0 0 μ 0 (as.map some ++ List.replicate (mm.1 - as.length) none) []
/-- the method's own words -/
def MD (y : MethodName) (cc : ByteArray) (mm : MM) : Prop := ((Cond.code y cc mm.1 mm.2.1 ∈ lw_all ∧ mm.2.2.1 = []) ∨ Cond.codeWith y cc mm.1 mm.2.1 mm.2.2.1 ∈ lw_all) ∧ plainFor y = true ∧ (y.cls ≠ "java/lang/invoke/MethodHandle" ∧ y.cls ≠ "java/lang/invoke/VarHandle") ∧ (mm.2.2.2.1 = true → y.name = "<init>")
theorem MD.at {y : MethodName} {s : State} (h : MD y cc mm) (hX : XW s) : ∃ mk meth c, s.methodNamed? y = some mk ∧ s.vm.method? mk = some meth ∧ meth.code = some c ∧ c.code = cc ∧ c.maxLocals = mm.1 ∧ meth.sig.returnType = mm.2.1 ∧ meth.locks = false ∧
    c.exceptionTable.toList.map (fun h => (h.startPc, h.endPc, h.handlerPc, h.catchType)) = mm.2.2.1 ∧ parseMethodDescriptor y.desc = some meth.sig := by
  rcases h.1 with ⟨hw, he⟩ | hw
  · have hc := hX.all hw #[]
    obtain ⟨mk, hn⟩ := Cond.code_named hc
    obtain ⟨meth, c, h1, h2, h3, h4, h5, h6, h7, h8⟩ := Cond.code_spec hn hc
    refine ⟨mk, meth, c, hn, h1, h2, h3, h4, h5, h6, ?_, h8⟩
    rw [he]
    have : c.exceptionTable.toList = [] := by simpa using h7
    rw [this]
    rfl
  · obtain ⟨mk, meth, c, hn, h1, h2, h3, h4, h5, h6, h7, h8⟩ := Cond.codeWith_spec (hX.all hw #[])
    exact ⟨mk, meth, c, hn, h1, h2, h3, h4, h6, h7, h5, h8⟩
theorem Steps.wk {tb : Tables} {e : Env} {below : List Frame} {g : Frame} {s t : State} (h : Steps tb e (g :: below) s t) : Steps tb e below s t := by
  obtain ⟨m, h1, h2⟩ := h
  exact ⟨m, h1, fun j hj => (h2 j hj).weaken (mid := [g])⟩
def catOK (as : List AV) : Prop := ∀ v ∈ as, ∀ ad : Ad, (cv ad v).category = 1
theorem sl_of {vs : List Value} (h : ∀ v ∈ vs, v.category = 1) : lg_sl vs = vs.map Slot.val := by
  induction vs with
  | nil => rfl
  | cons v t ih =>
    have h1 := h v List.mem_cons_self
    have h2 := ih fun w hw => h w (List.mem_cons_of_mem _ hw)
    unfold lg_sl at h2 ⊢
    rw [List.flatMap_cons, h2, if_neg (by rw [h1]; decide)]
    rfl
theorem Lc.entry {as : List AV} {nL : Nat} (hc : catOK as) (hlen : as.length ≤ nL) : Lc nL ad (as.map some ++ List.replicate (nL - as.length) none) ((lg_sl (as.map (cv ad)) ++ List.replicate (nL - (lg_sl (as.map (cv ad))).length) Slot.unset).toArray) := by
  have hsl : lg_sl (as.map (cv ad)) = (as.map (cv ad)).map Slot.val := sl_of fun v hv => by
    obtain ⟨w, hw, rfl⟩ := List.mem_map.mp hv
    exact hc w hw ad
  have hL : (lg_sl (as.map (cv ad))).length ≤ nL := by rw [hsl]; simpa using hlen
  have h0 := lv_entry (as.map (cv ad)) hL
  refine ⟨⟨h0.1, h0.2.1, fun q hq => by cases hq⟩, by simp; omega, fun j v hj => ?_⟩
  have hjl : j < as.length := by
    rcases Nat.lt_or_ge j as.length with q | q
    · exact q
    · rw [List.getElem?_append_right (by simpa using q)] at hj
      have := (List.getElem?_eq_some_iff.mp hj).2
      simp at this
  rw [List.getElem?_append_left (by simpa using hjl), List.getElem?_map, List.getElem?_eq_getElem hjl] at hj
  have hv : as[j] = v := by simpa using hj
  refine ⟨?_, hc v (hv ▸ List.getElem_mem hjl) ad⟩
  rw [hsl, List.getElem?_toArray, List.getElem?_append_left (by simpa using hjl)]
  simp [hjl, hv]
theorem call_core (h : Hy own cc mm E μ ls st ad H locs la) {T : State} (hT : T.heap = H) (X : Stand (cP E) (cLa E) (cEn E) (cR E) (cS E) (cM E) (cAr E) (cB E) (cMe E) (cC E) T locs k n)
    {g : JFrame} (hg : g.method = cM E) (hsize : g.locals.size = (cC E).maxLocals) {ig : Instr} {len : Nat} (hdg : decode (cC E).code g.pc = .ok (ig, len))
    {y : MethodName} {cc' : ByteArray} {mm' : MM} (hMD : MD y cc' mm') {mk : MethodId} (hn : (cS E).methodNamed? y = some mk) {as : List AV} (hlv : LvL μ as) (hcat : catOK as) (hlen : as.length ≤ mm'.1)
    (hframes : mm'.2.2.2.2.frames + 1 ≤ mm.2.2.2.2.frames) (hlocals : 2 * g.monitorRoom + (g.stack.map fun v => v.category).sum + (mm'.1 + 11) + mm'.2.2.2.2.locals ≤ mm.2.2.2.2.locals) (hcells : k + mm'.2.2.2.2.cells ≤ mm.2.2.2.2.cells) (hslots : n + mm'.2.2.2.2.slots ≤ mm.2.2.2.2.slots)
    {Q : Res → Mem → Prop} (hct : Ct y.cls cc' mm' as μ Q) :
    ∃ (T' : State) (L : List Loc) (r : Res) (μ' : Mem) (ad' : Ad), Stand (cP E) (cLa E) (cEn E) (cR E) (cS E) (cM E) (cAr E) (cB E) (cMe E) (cC E) T' (locs ++ L) (k + mm'.2.2.2.2.cells) (n + mm'.2.2.2.2.slots) ∧ (∀ q ∈ L, (gH E.1).size ≤ q.base) ∧ Rel E.1 ad' μ' T'.heap ∧ Xt μ ad ad' ∧ Mn μ μ' ∧ Q r μ' ∧ T.WarmedH T'.vm ∧
      (match r with
        | .inl v => (∀ x, v = some x → LvV μ' x) ∧ ∀ target acts, Steps (cP E).tables (cEn E) (cB E) (T'.setTop { g with pc := g.pc + len, stack := (v.map (cv ad')).toList ++ g.stack }) target → Steps (cP E).tables (cEn E) (cB E) (doInvoke (cEn E) (T.setTop g) acts mk (as.map (cv ad)).toArray).1 target
        | .inr x => Lv μ' x ∧ ∀ target acts, Steps (cP E).tables (cEn E) (cB E) ((T'.setTop g).pushFrame (.throwing (ad' x.1 x.2))) target → Steps (cP E).tables (cEn E) (cB E) (doInvoke (cEn E) (T.setTop g) acts mk (as.map (cv ad)).toArray).1 target) := by
  have hX : XW (cS E) := h.kk.1
  obtain ⟨mk', methk, ck, hn', hm, hcode, hbytes, hmaxL, hret, hlocks, het, hsig⟩ := hMD.at hX
  cases hn.symm.trans hn'
  have hmT : T.vm.method? mk = some methk := by rw [X.warmed.alike.method?]; exact hm
  have hpk : T.plainMethod mk := State.plainMethod.of_named hMD.2.1 (X.named hn) hmT
  obtain ⟨Y, hdo⟩ := X.into hg hsize hdg (as.map (cv ad)).toArray (R' := mm'.2.2.2.2) hmT hcode hlocks hpk (by rw [h.rm]; exact hframes) (by rw [h.rm, hmaxL]; exact hlocals) (by rw [h.rm]; exact hcells) (by rw [h.rm]; exact hslots)
  have hnT : (T.calling g mk (as.map (cv ad)).toArray).methodNamed? y = some mk := X.named hn
  have hHy : Hy y.cls cc' mm' (E.1, (cP E, cLa E, cEn E, mm'.2.2.2.2, T.calling g mk (as.map (cv ad)).toArray, mk, (as.map (cv ad)).toArray, .java g :: cB E, methk, ck), μ, ad, Q) μ (as.map some ++ List.replicate (mm'.1 - as.length) none) [] ad H []
      ((lg_sl (as.map (cv ad)) ++ List.replicate (mm'.1 - (lg_sl (as.map (cv ad))).length) Slot.unset).toArray) := by
    refine ⟨⟨h.ex, hbytes, findClass_of_methodNamed hnT, hmaxL, hret, het, fun q => (name_of_methodNamed hn hm).1.trans (hMD.2.2.2 q), rfl, hlocks, h.1.2.2.2.2.2.2.2.2.2.1, KK.warm (s := cS E) X.warmed h.kk (fun q hq => by show T.heap[q]? = _; rw [hT]; exact h.rel.1.1 q hq)⟩, ⟨Mn.rf, fun _ _ _ => rfl⟩, fun q hq => (by cases hq), h.rel, fun v hv => ?_, LvL.nil, Lc.entry hcat hlen⟩
    rcases List.mem_append.mp hv with e | e
    · obtain ⟨w, hw, e⟩ := List.mem_map.mp e
      cases e
      exact hlv v hw
    · exact absurd (List.eq_of_mem_replicate e) (by simp)
  have hw := hct E.1 (cP E, cLa E, cEn E, mm'.2.2.2.2, T.calling g mk (as.map (cv ad)).toArray, mk, (as.map (cv ad)).toArray, .java g :: cB E, methk, ck) ad ad H [] _ hHy
  obtain ⟨t, hst, o, L, hrun, hend, hW, hsame, hL, r, μ', ad', hR', hXt, hMn, hRR, hQ⟩ := hw _ (by exact hT) Y
  have hst : Steps (cP E).tables (cEn E) (cB E) (((T.setTop g).pushFrame (.java (entryFrame mk (as.map (cv ad)).toArray ck.maxLocals))).setTop (entryFrame mk (as.map (cv ad)).toArray ck.maxLocals)) t := by
    have e := lg_entry_eq mk (as.map (cv ad)) ck.maxLocals
    rw [hmaxL] at e
    have hst' := Steps.wk hst
    rw [hmaxL]
    rw [hmaxL, e] at hst'
    rw [e]
    exact hst'
  match r, hRR, hQ with
  | .inl none, hRR, hQ =>
    have hRR : o = .returned none := hRR
    subst hRR
    obtain ⟨T', X', hW', -, ht⟩ := X.outOf hg hdg hend hW hsame
    refine ⟨T', L, .inl none, μ', ad', X', hL, by rw [ht] at hR'; exact hR', hXt, hMn, hQ, hW', fun x q => (by cases q), fun target acts hs => ?_⟩
    rw [hdo acts]
    refine hst.trans ?_
    rw [ht]
    exact hs
  | .inl (some v), hRR, hQ =>
    obtain ⟨hRR, hlv'⟩ := hRR
    subst hRR
    obtain ⟨T', X', hW', -, ht⟩ := X.outOf hg hdg hend hW hsame
    refine ⟨T', L, .inl (some v), μ', ad', X', hL, by rw [ht] at hR'; exact hR', hXt, hMn, hQ, hW', fun x q => (by cases q; exact hlv'), fun target acts hs => ?_⟩
    rw [hdo acts]
    refine hst.trans ?_
    rw [ht]
    exact hs
  | .inr x, hRR, hQ =>
    obtain ⟨hRR, hlv'⟩ := hRR
    subst hRR
    obtain ⟨T', X', hW', -, ht⟩ := X.outOfThrown hg hend hW hsame
    refine ⟨T', L, .inr x, μ', ad', X', hL, by rw [ht] at hR'; exact hR', hXt, hMn, hQ, hW', hlv', fun target acts hs => ?_⟩
    rw [hdo acts]
    refine hst.trans ?_
    rw [ht]
    exact hs
end ZC
