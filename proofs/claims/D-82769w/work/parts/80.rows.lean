/-! rows: new arrays of references, System.arraycopy -/
section ROWS
variable {own : String} {cc : ByteArray} {mm : MM} {E : Ex} {k n : Nat} {μ : Mem} {pc : Nat} {ls : List (Option AV)} {st : List AV}
theorem z_anew {t N index : Nat} {C : String} {x : Int32} (p : Nat) (hcl : Cond.classLink own index C ∈ lw_all) (hov : Cond.arrayOver (.object C) ∈ lw_tbl) (hd : decode cc pc = .ok (.anewarray index, 3)) (hp : kd p = .inr (t, 1)) (ht : t < 13) (hty : tyA.getD t .int = .object C) (hx : x = nI N) (hN : N ≤ 65536) (hm : ¬ (p = 27 ∨ p = 46) → N = fl p) (hk : k + 1 ≤ mm.2.2.2.2.cells) (hn : n + N ≤ mm.2.2.2.2.slots) (kk : Z own cc mm E (k + 1) (n + N) (nw μ p N) (pc + 3) ls (vr p (gC μ p) :: st)) : Z own cc mm E k n μ pc ls (vi x :: st) := by
  intro ad H locs la h
  have hX : XW (cS E) := h.1.2.2.2.2.2.2.2.2.2.2.1
  have hK := h.1.2.2.2.2.2.2.2.2.2.2.2.1
  have hrm : cR E = mm.2.2.2.2 := h.1.2.2.2.2.2.2.2.1
  have hRA := (hK.2 t _ (tys_at ht)).2
  rw [hty] at hRA
  obtain ⟨kA, comp, k1, k2, k3, k4⟩ := hRA
  subst hx
  have hcl' : (nI N).toNatClampNeg = N := nI_clamp (by omega)
  refine W.anew h.ex h.bs h.ow (hX.all hcl _) (va_AO.use (hX.2 C hov)) (g := F0 (cM E) pc la (.int (nI N) :: st.map (cv ad))) rfl hd rfl (nI_pos (by omega)) (by rw [hcl']; omega) (by rw [hrm]; exact hk) (by rw [hrm, hcl']; exact hn) fun cA kA' comp' f1 f2 f3 f4 => ?_
  have ec : cA = E.1.2.1 t := Option.some.inj (f1.symm.trans k4)
  subst ec
  rw [hcl']
  generalize hH1 : H.push ({ cls := E.1.2.1 t, slots := Array.replicate N .null, vm := .none } : Cell) = H'
  have e2 : H'.size = H.size + 1 := by rw [← hH1, Array.size_push]
  have e1 : H'[H.size]? = some (arrV (E.1.2.1 t) N (fun _ => .null)) := by rw [← hH1, Array.getElem?_push_size, ← arrV_new]
  have e3 : ∀ q : Nat, q < H.size → H'[q]? = H[q]? := fun q hq => by rw [← hH1, Array.getElem?_push, if_neg (Nat.ne_of_lt hq)]
  have h' : Hy own cc mm E μ ls st ad H locs la := h.stk h.lst.tl
  have hR : Rel E.1 (upA ad p (gC μ p) H.size) (nw μ p N) H' := by
    refine h.rel.mk1 (kd_ne0A hp) hm e2 e3 ?_
    unfold Cel
    rw [hp]
    show H'[upA ad p (gC μ p) H.size p (gC μ p)]? = _
    rw [upA_eq, if_pos ⟨rfl, rfl⟩, e1, gL_nw _ _ _ _ _ hm, if_pos ⟨rfl, rfl⟩]
    have : (fun j => cr (upA ad p (gC μ p) H.size) (gP (nw μ p N) p (gC μ p) j)) = fun _ => Value.null := funext fun j => by rw [gP_nw, if_pos ⟨rfl, rfl⟩]; rfl
    rw [this]
  have := kk (upA ad p (gC μ p) H.size) H' locs la (h'.mk1 hR)
  rw [List.map_cons, map_upA h'.lst] at this
  have e : cv (upA ad p (gC μ p) H.size) (vr p (gC μ p)) = .ref H.size := by
    show Value.ref (upA ad p (gC μ p) H.size p (gC μ p)) = _
    rw [upA_eq, if_pos ⟨rfl, rfl⟩]
  rw [e] at this
  exact this
/-- arrays of references, the first places copied -/
theorem z_acopy {p i q i' t ci index N : Nat} {r : vw_C} {x : Int32} (μ' : Mem) (w1 : Cond.methodLink own index arraycopyName ∈ lw_all) (w2 : Cond.native arraycopyName ∈ lw_all) (w3 : Cond.static arraycopyName ∈ lw_all) (w4 : Cond.initialized "java/lang/System" ∈ lw_all)
    (hd : decode cc pc = .ok (.invokestatic index, 3)) (hp : kd p = .inr (t, 1)) (hq : kd q = .inr (t, 1)) (ht : t < 13) (hc : cl[ci]? = some r) (hty : tyA.getD t .int = .object r.1) (hx : x = nI N) (hN : N ≤ 65536) (h4 : N ≤ gL μ q i') (h5 : N ≤ gL μ p i)
    (hsrc : ∀ j, j < N → ∃ p' j', gP μ q i' j = some (p', j') ∧ kd p' = .inl ci) (hU : UpAt μ μ' p i) (hL : gL μ' p i = gL μ p i) (hV : ∀ j, gP μ' p i j = if j < N then gP μ q i' j else gP μ p i j)
    (hfr : 1 ≤ mm.2.2.2.2.frames) (hlo : 2 * st.length + (nativeFrameWords "java/lang/System" "arraycopy" 5 + 11) ≤ mm.2.2.2.2.locals)
    (kk : Z own cc mm E k n μ' (pc + 3) ls st) : Z own cc mm E k n μ pc ls (vi x :: vi 0 :: vr p i :: vi 0 :: vr q i' :: st) := by
  intro ad H locs la h
  have hX : XW (cS E) := h.1.2.2.2.2.2.2.2.2.2.2.1
  have hK := h.1.2.2.2.2.2.2.2.2.2.2.2.1
  have hrm : cR E = mm.2.2.2.2 := h.1.2.2.2.2.2.2.2.1
  subst hx
  have hcl' : (nI N).toNatClampNeg = N := nI_clamp (by omega)
  have hst : LvL μ st := h.lst.tl.tl.tl.tl.tl
  obtain ⟨hc1, hge⟩ := h.rel.arrP h.lst.tl.tl.hd hp
  obtain ⟨hc0, -⟩ := h.rel.arrP h.lst.tl.tl.tl.tl.hd hq
  have hcls := (hK.1 ci r hc).2
  have hRA := (hK.2 t _ (tys_at ht)).2
  rw [hty] at hRA
  obtain ⟨kA, comp, k1, k2, k3, -⟩ := hRA
  have hcomp : comp = E.1.1.1 ci := Option.some.inj (k3.symm.trans hcls.1)
  subst hcomp
  obtain ⟨kC, hkC, hkind⟩ := hcls.2
  intro T hT X
  have hz : (0 : Int32).toNatClampNeg = 0 := rfl
  have nti : (nI N).toInt = N := nI_toInt (by omega)
  have hsz : la.size = (cC E).maxLocals := h.lc.1.1.trans h.1.2.2.2.1.symm
  obtain ⟨vm', X', step⟩ := X.arraycopy h.ex h.ow (hX.all w1 _) (hX.all w2 _) (hX.all w3 _) (hX.all w4 _) (src := ad q i') (dst := ad p i) (srcPos := 0) (destPos := 0) (n := nI N) (by rw [hT]; exact hc0) (by rw [hT]; exact hc1)
    (fun _ h => by cases h) (fun _ h => by cases h) (fun h => by cases h) (fun h => by cases h) k1 k1 k2 k2 (by simp [refKind]) (by decide) (by decide) (nI_pos (by omega))
    (by rw [nti]; show ¬ (0 : Int) + _ > ((arrV _ _ _).slots.size : Int); rw [arrV_size]; omega)
    (by rw [nti]; show ¬ (0 : Int) + _ > ((arrV _ _ _).slots.size : Int); rw [arrV_size]; omega)
    (fun vm₁ hal j hj => by
      rw [hcl'] at hj
      obtain ⟨p', j', g1, g2⟩ := hsrc j hj
      have hlv : Lv μ (p', j') := h.rel.2.2.2.2.1 _ _ _ _ g1
      obtain ⟨⟨cell, d1, d2, d3, -⟩, -⟩ := h.rel.obj hlv g2 hc
      have e : (arrV (E.1.2.1 t) (gL μ q i') (fun j => cr ad (gP μ q i' j))).slots.getD ((0 : Int32).toNatClampNeg + j) .null = .ref (ad p' j') := by
        rw [hz, Nat.zero_add, Array.getD_eq_getD_getElem?, arrV_read _ _ (by omega), g1]
        rfl
      rw [e]
      obtain ⟨k', hk', he'⟩ := hal.2.2 _ _ hkC
      refine ⟨rfl, cell, by show T.heap[_]? = _; rw [hT]; exact d1, fun z hz => by rw [d3] at hz; cases hz, ⟨k', by rw [d2]; exact hk'⟩, ⟨k', hk'⟩, ?_⟩
      rw [d2]
      exact va_assign (s := T.setVm vm₁) (C := r.1) ⟨by show vm₁.findClass _ = _; rw [hal.findClass]; exact hcls.1, k', hk', by rw [he']; exact hkind⟩)
    (g := F0 (cM E) pc la (.int (nI N) :: .int 0 :: .ref (ad p i) :: .int 0 :: .ref (ad q i') :: st.map (cv ad))) rfl hsz (rest := st.map (cv ad)) rfl (by rw [h.bs]; exact hd) (by rw [hrm]; exact hfr) (by
      have := cat_sum (st.map (cv ad))
      rw [List.length_map] at this
      rw [hrm]
      show 2 * 0 + ((st.map (cv ad)).map fun v => v.category).sum + _ ≤ _
      omega)
  have e1 : copied (arrV (E.1.2.1 t) (gL μ q i') (fun j => cr ad (gP μ q i' j))) (arrV (E.1.2.1 t) (gL μ p i) (fun j => cr ad (gP μ p i j))) 0 0 (nI N) = arrV (E.1.2.1 t) (gL μ p i) (fun j => cr ad (gP μ' p i j)) := by
    have h0 := va_copied (fun z => cr ad z) (E.1.2.1 t) (E.1.2.1 t) (n0 := gL μ q i') (n1 := gL μ p i) (sp := 0) (dp := 0) (n := N) (fun j => gP μ q i' j) (fun j => gP μ p i j) (by omega)
    unfold copied
    rw [hcl', hz, h0]
    congr 1
    funext j
    rw [hV]
    unfold va_cpy
    by_cases hj : j < N
    · rw [if_pos ⟨Nat.zero_le _, by omega⟩, if_pos hj, Nat.sub_zero, Nat.zero_add]
    · rw [if_neg (fun z => hj (by omega)), if_neg hj]
  rw [e1] at X' step
  have hl : ad p i < H.size := (Array.getElem?_eq_some_iff.mp hc1).1
  generalize hcell : arrV (E.1.2.1 t) (gL μ p i) (fun j => cr ad (gP μ' p i j)) = cell' at X' step
  have hheap : ((T.setVm vm').setCell (ad p i) cell').heap = H.setIfInBounds (ad p i) cell' := by rw [← hT]; rfl
  have oq : ∀ a : Nat, a ≠ ad p i → (H.setIfInBounds (ad p i) cell')[a]? = H[a]? := fun a ha => by simp [Array.getElem?_setIfInBounds, Ne.symm ha]
  have os : (H.setIfInBounds (ad p i) cell')[ad p i]? = some cell' := by simp [Array.getElem?_setIfInBounds, hl]
  have hclo : ∀ p1 i1 k1 h1, gP μ' p1 i1 k1 = some h1 → Lv μ h1 := fun p1 i1 k1 h1 hh => by
    by_cases e : p1 = p ∧ i1 = i
    · obtain ⟨rfl, rfl⟩ := e
      rw [hV] at hh
      split at hh <;> exact h.rel.2.2.2.2.1 _ _ _ _ hh
    · rw [(hU.2 p1 i1 e).2.1] at hh
      exact h.rel.2.2.2.2.1 _ _ _ _ hh
  have hR' : Rel E.1 ad μ' (H.setIfInBounds (ad p i) cell') := by
    refine h.rel.upd (kd_ne0A hp) h.lst.tl.tl.hd hU hclo (by simp) oq ?_
    unfold Cel
    rw [hp]
    show _ = some (arrV _ (gL μ' p i) _)
    rw [os, hL, ← hcell]
  have hm : Mn μ μ' := fun a => by rw [hU.1]; exact Nat.le_refl _
  have hy : Hy own cc mm E μ' ls st ad (H.setIfInBounds (ad p i) cell') (locs ++ ((arrV (E.1.2.1 t) (gL μ q i') (fun j => cr ad (gP μ q i' j))).stretch (0 : Int32).toNatClampNeg (nI N).toNatClampNeg).zipIdx.map fun q => ⟨ad p i, (0 : Int32).toNatClampNeg + q.2⟩) la := by
    refine ⟨h.1, ⟨h.2.1.1.tr hm, h.2.1.2⟩, fun a ha => ?_, hR', h.lo.mn hm, hst.mn hm, h.lc⟩
    rcases List.mem_append.mp ha with e | e
    · exact h.2.2.1 a e
    · obtain ⟨z, -, hz'⟩ := List.mem_map.mp e
      rw [← hz']
      exact hge
  obtain ⟨t', a1, b1⟩ := kk ad _ _ la hy _ hheap X'
  exact ⟨t', step t' a1, b1⟩
end ROWS
