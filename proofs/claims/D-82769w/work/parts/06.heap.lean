/-! rows of the heap -/
section ZH
variable {own : String} {cc : ByteArray} {mm : MM} {E : Ex} {k n : Nat} {μ μ' : Mem} {pc : Nat} {ls : List (Option AV)} {st : List AV} {ad ad' : Ad} {H H' : Heap} {locs : List Loc} {la : Array Slot} {Γ : Gx} {p i : Nat}
theorem XW.all {U : State} (h : XW U) {w : Cond} (hw : w ∈ lw_all) (A : Array Value) : w.before A U = true := h.1 w (lw_all_tbl hw) (by unfold rideW; rw [(List.mem_filter.mp hw).2]; rfl) A
theorem XW.warm {s U : State} (hW : s.WarmedH U.vm) (h : XW s) : XW U := by
  refine ⟨fun w hw hr A => ?_, fun C hC => va_AO.moved hW.alike (h.2 C hC)⟩
  by_cases g : goodWord w = true
  · exact word_at hW (good_of_word g) (h.1 w hw hr #[])
  · cases w <;> first
      | (exfalso; revert hr; simp [rideW, g]; done)
      | exact va_Nw.use rfl (va_Nw.warmF hW (h.1 _ hw hr #[]))
      | exact va_Nw.use rfl (va_Nw.warmM hW (h.1 _ hw hr #[]))
      | exact va_Nw.use rfl (va_Nw.warmD hW (h.1 _ hw hr #[]))
      | exact va_Nw.use rfl (va_Nw.warmC hW (h.1 _ hw hr #[]))
theorem ls_vm {A A' : Array Value} {u U : State} (hv : U.vm = u.vm) (hh : U.heap = u.heap) {w : Cond} (hw : w ∈ lsL) (h : w.before A u = true) : w.before A' U = true := by
  unfold lsL at hw
  rcases List.mem_cons.mp hw with e | hw
  · subst e
    simp only [Cond.before, Cond.holds, Cond.value, State.fieldFound?, hv, hh] at h ⊢
    exact h
  · rcases List.mem_cons.mp hw with e | hw
    · subst e
      simp only [Cond.before, Cond.holds, Cond.value, State.fieldFound?, hv, hh] at h ⊢
      exact h
    · cases hw
theorem ls_keeps {w : Cond} (hw : w ∈ lsL) : w.keeps = true := by
  unfold lsL at hw
  rcases List.mem_cons.mp hw with e | hw
  · subst e; rfl
  · rcases List.mem_cons.mp hw with e | hw
    · subst e; rfl
    · cases hw
theorem SX.warm {s U : State} (hW : s.WarmedH U.vm) (h : SX Γ s) : SX Γ U := by
  have hr : ∀ {C n d : String}, stRef Γ C n d s → stRef Γ C n d U := fun ⟨r, h1, h2⟩ => ⟨r, h1, va_Z.moved hW.alike h2⟩
  obtain ⟨h1, h2, h3, h4, h5, h6, h7, h8⟩ := h
  refine ⟨fun i q b hq hb => ?_, va_Z.moved hW.alike h2, hr h3, hr h4, hr h5, h6, fun a ha b hb e => va_Nc.moved hW.alike (h7 a ha b hb e), fun w hw => ?_⟩
  · obtain ⟨a1, a2, a3, a4, a5⟩ := h1 i q b hq hb
    exact ⟨a1.warm hW, va_O.moved hW.alike a2, va_OF.moved hW.alike a3, va_OF.moved hW.alike a4, va_T.moved hW.alike a5⟩
  · have hW' : (atH (gH Γ) s).WarmedH U.vm := hW
    exact ls_vm (A := #[]) (u := (atH (gH Γ) s).setVm U.vm) (U := atH (gH Γ) U) rfl rfl hw (Cond.holds_shifted (State.Shifted.of_warmed hW') w [] (ls_keeps hw) (h8 w hw))
theorem KK.warm {s U : State} (hW : s.WarmedH U.vm) (h : KK Γ s) (hh : ∀ q, q < (gH Γ).size → U.heap[q]? = (gH Γ)[q]?) : KK Γ U := ⟨h.1.warm hW, va_K.moved hW.alike h.2.1, h.2.2.1.warm hW, hh⟩
/-- the field that a class's pool entry names: class number, field number, final -/
def FL (own : String) (idx ci k : Nat) (fin : Bool) : Prop := ∃ r, cl[ci]? = some r ∧ k < r.2.2 ∧ (r.2.1 k).2.2.2 = fin ∧ ((Cond.fieldLink own idx (r.2.1 k).1 (r.2.1 k).2.1 (r.2.1 k).2.2.1 ∈ lw_all) ∨ ∃ host, Cond.fieldLinkNest own idx (r.2.1 k).1 (r.2.1 k).2.1 (r.2.1 k).2.2.1 host ∈ lw_tbl)
/-- a final field, set in its own class's constructor -/
def FF (own : String) (idx ci k : Nat) : Prop := ∃ r, cl[ci]? = some r ∧ k < r.2.2 ∧ (r.2.1 k).2.2.2 = true ∧ (r.2.1 k).1 = own ∧ Cond.fieldLink own idx (r.2.1 k).1 (r.2.1 k).2.1 (r.2.1 k).2.2.1 ∈ lw_all
theorem cl_999 : cl[999]? = none := List.getElem?_eq_none (by show 21 ≤ 999; decide)
theorem kd_ne0 {ci : Nat} {r : vw_C} (hp : kd p = .inl ci) (hc : cl[ci]? = some r) : p ≠ 0 := by
  intro e
  subst e
  have h0 : kd 0 = .inl 999 := rfl
  rw [h0] at hp
  cases hp
  rw [cl_999] at hc
  cases hc
theorem kd_ne0A {q : Nat × Nat} (hp : kd p = .inr q) : p ≠ 0 := by
  intro e
  subst e
  have h0 : kd 0 = .inl 999 := rfl
  rw [h0] at hp
  cases hp
theorem Rel.obj {ci : Nat} {r : vw_C} (hR : Rel Γ ad μ H) (hl : Lv μ (p, i)) (hp : kd p = .inl ci) (hc : cl[ci]? = some r) : OB (ad p i) (Γ.1.1 ci) r.2.2 (Γ.1.2 ci) H (fv ad μ p i ci) ∧ (gH Γ).size ≤ ad p i := by
  obtain ⟨h1, h2⟩ := hR.2.2.1 p i (kd_ne0 hp hc) hl
  unfold Cel at h2
  rw [hp] at h2
  obtain ⟨r', hc', h3⟩ := h2
  cases hc.symm.trans hc'
  exact ⟨h3, h1⟩
theorem Rel.arrI {t : Nat} (hR : Rel Γ ad μ H) (hl : Lv μ (p, i)) (hp : kd p = .inr (t, 0)) : H[ad p i]? = some (arrV (Γ.2.1 t) (gL μ p i) (fun j => .int (gI μ p i j))) ∧ (gH Γ).size ≤ ad p i := by
  obtain ⟨h1, h2⟩ := hR.2.2.1 p i (kd_ne0A hp) hl
  unfold Cel at h2
  rw [hp] at h2
  exact ⟨h2, h1⟩
theorem Rel.arrP {t : Nat} (hR : Rel Γ ad μ H) (hl : Lv μ (p, i)) (hp : kd p = .inr (t, 1)) : H[ad p i]? = some (arrV (Γ.2.1 t) (gL μ p i) (fun j => cr ad (gP μ p i j))) ∧ (gH Γ).size ≤ ad p i := by
  obtain ⟨h1, h2⟩ := hR.2.2.1 p i (kd_ne0A hp) hl
  unfold Cel at h2
  rw [hp] at h2
  exact ⟨h2, h1⟩
theorem Rel.arrJ {t : Nat} (hR : Rel Γ ad μ H) (hl : Lv μ (p, i)) (hp : kd p = .inr (t, 2)) : H[ad p i]? = some (arrV (Γ.2.1 t) (gL μ p i) (fun j => .long (gJ μ p i j))) ∧ (gH Γ).size ≤ ad p i := by
  obtain ⟨h1, h2⟩ := hR.2.2.1 p i (kd_ne0A hp) hl
  unfold Cel at h2
  rw [hp] at h2
  exact ⟨h2, h1⟩
theorem Rel.live (hR : Rel Γ ad μ H) (p i k : Nat) : LvV μ (vo (gP μ p i k)) := by
  cases h : gP μ p i k with
  | none => trivial
  | some q => exact hR.2.2.2.2.1 p i k q h
theorem Cel.congr (ha : ad' p i = ad p i) (hI : ∀ k, gI μ' p i k = gI μ p i k) (hP : ∀ k, cr ad' (gP μ' p i k) = cr ad (gP μ p i k)) (hJ : ∀ k, gJ μ' p i k = gJ μ p i k) (hL : gL μ' p i = gL μ p i) (hH : H'[ad p i]? = H[ad p i]?) (h : Cel Γ ad μ H p i) : Cel Γ ad' μ' H' p i := by
  have hf : ∀ ci, fv ad' μ' p i ci = fv ad μ p i ci := fun ci => funext fun k => by unfold fv; rw [hP, hI]
  have e0 : (fun j => Value.int (gI μ' p i j)) = fun j => Value.int (gI μ p i j) := funext fun j => by rw [hI]
  have e1 : (fun j => cr ad' (gP μ' p i j)) = fun j => cr ad (gP μ p i j) := funext fun j => hP j
  have e2 : (fun j => Value.long (gJ μ' p i j)) = fun j => Value.long (gJ μ p i j) := funext fun j => by rw [hJ]
  unfold Cel at h ⊢
  rw [ha, hL, e0, e1, e2]
  generalize kd p = q at h ⊢
  match q, h with
  | .inl ci, h =>
    obtain ⟨r, hc, cell, h1, h2⟩ := h
    exact ⟨r, hc, cell, by rw [hH]; exact h1, by rw [hf]; exact h2⟩
  | .inr (t, 0), h => exact hH.trans h
  | .inr (t, 1), h => exact hH.trans h
  | .inr (t, 2), h => exact hH.trans h
  | .inr (t, s + 3), h =>
    obtain ⟨cell, h1, h2⟩ := h
    exact ⟨cell, hH.trans h1, h2⟩
theorem Cel.lt (h : Cel Γ ad μ H p i) : ad p i < H.size := by
  unfold Cel at h
  generalize kd p = q at h
  match q, h with
  | .inl ci, h =>
    obtain ⟨r, hc, cell, h1, h2⟩ := h
    exact (Array.getElem?_eq_some_iff.mp h1).1
  | .inr (t, 0), h => exact (Array.getElem?_eq_some_iff.mp h).1
  | .inr (t, 1), h => exact (Array.getElem?_eq_some_iff.mp h).1
  | .inr (t, 2), h => exact (Array.getElem?_eq_some_iff.mp h).1
  | .inr (t, s + 3), h =>
    obtain ⟨cell, h1, h2⟩ := h
    exact (Array.getElem?_eq_some_iff.mp h1).1
/-- the memory has changed at one cell only -/
def UpAt (μ μ' : Mem) (p i : Nat) : Prop := (∀ q, gC μ' q = gC μ q) ∧ ∀ p' i', ¬ (p' = p ∧ i' = i) → (∀ k, gI μ' p' i' k = gI μ p' i' k) ∧ (∀ k, gP μ' p' i' k = gP μ p' i' k) ∧ (∀ k, gJ μ' p' i' k = gJ μ p' i' k) ∧ gL μ' p' i' = gL μ p' i'
theorem UpAt.I (μ : Mem) (p i k : Nat) (x : Int32) : UpAt μ (sI μ p i k x) p i := ⟨fun _ => rfl, fun p' i' h => ⟨fun k' => by rw [gI_sI, if_neg (fun q => h ⟨q.1, q.2.1⟩)], fun _ => rfl, fun _ => rfl, rfl⟩⟩
theorem UpAt.P (μ : Mem) (p i k : Nat) (x : Option (Nat × Nat)) : UpAt μ (sP μ p i k x) p i := ⟨fun _ => rfl, fun p' i' h => ⟨fun _ => rfl, fun k' => by rw [gP_sP, if_neg (fun q => h ⟨q.1, q.2.1⟩)], fun _ => rfl, rfl⟩⟩
theorem UpAt.J (μ : Mem) (p i k : Nat) (x : Int64) : UpAt μ (sJ μ p i k x) p i := ⟨fun _ => rfl, fun p' i' h => ⟨fun _ => rfl, fun _ => rfl, fun k' => by rw [gJ_sJ, if_neg (fun q => h ⟨q.1, q.2.1⟩)], rfl⟩⟩
theorem Rel.upd (hR : Rel Γ ad μ H) (hp0 : p ≠ 0) (hl : Lv μ (p, i)) (hU : UpAt μ μ' p i) (hcl : ∀ p i k h, gP μ' p i k = some h → Lv μ h) (hz : H'.size = H.size) (hq : ∀ q, q ≠ ad p i → H'[q]? = H[q]?) (hc : Cel Γ ad μ' H' p i) : Rel Γ ad μ' H' := by
  obtain ⟨⟨h1, h2⟩, ⟨h3, h4⟩, h5, h6, h7, h8⟩ := hR
  have hge := (h5 p i hp0 hl).1
  refine ⟨⟨fun q hlt => ?_, by rw [hz]; exact h2⟩, ⟨by rw [hU.1]; exact h3, h4⟩, fun p' i' hp' hl' => ?_, fun p1 i1 p2 i2 a b c d => ?_, fun p' i' k' h hh => ?_, fun p' i' k' hh => ?_⟩
  · rw [hq q (by omega)]
    exact h1 q hlt
  · rw [hU.1] at hl'
    refine ⟨(h5 p' i' hp' hl').1, ?_⟩
    by_cases e : p' = p ∧ i' = i
    · rw [e.1, e.2]; exact hc
    · obtain ⟨a1, a2, a3, a4⟩ := hU.2 p' i' e
      refine (h5 p' i' hp' hl').2.congr rfl a1 (fun k' => by rw [a2]) a3 a4 (hq _ fun q => e ?_)
      exact h6 p' i' p i hp' hp0 hl' hl q
  · rw [hU.1] at c d
    exact h6 p1 i1 p2 i2 a b c d
  · show h.2 < gC μ' h.1
    rw [hU.1]
    exact hcl p' i' k' h hh
  · rw [hU.1] at hh
    have e : ¬ (p' = p ∧ i' = i) := fun q => by
      rw [q.1, q.2] at hh
      exact absurd hl (Nat.not_lt.mpr hh)
    obtain ⟨a1, a2, -, -⟩ := hU.2 p' i' e
    rw [a1, a2]
    exact h8 p' i' k' hh
theorem Hy.upd {st' : List AV} {a0 s0 : Nat} (h : Hy own cc mm E μ ls st ad H locs la) (hU : UpAt μ μ' p i) (hs : LvL μ st') (hR : Rel E.1 ad μ' H') (ha : (gH E.1).size ≤ a0) : Hy own cc mm E μ' ls st' ad H' (locs ++ [⟨a0, s0⟩]) la := by
  have hm : Mn μ μ' := fun q => by rw [hU.1]; exact Nat.le_refl _
  refine ⟨h.1, ⟨h.2.1.1.tr hm, h.2.1.2⟩, fun q hq => ?_, hR, h.lo.mn hm, hs.mn hm, h.lc⟩
  rcases List.mem_append.mp hq with e | e
  · exact h.2.2.1 q e
  · rw [List.mem_singleton.mp e]; exact ha
/-- what the heap's picture says of a memory, to be used in a walk -/
theorem z_zf (kk : (∀ p i k, gC μ p ≤ i → gI μ p i k = 0 ∧ gP μ p i k = none) → Z own cc mm E k n μ pc ls st) : Z own cc mm E k n μ pc ls st := fun ad H locs la h => kk h.rel.2.2.2.2.2 ad H locs la h
/-! fields -/
theorem z_getV {idx ci k0 : Nat} {fin : Bool} (hf : FL own idx ci k0 fin) (hd : decode cc pc = .ok (.getfield idx, 3)) (hp : kd p = .inl ci) {v : AV} (hv : ∀ ad, fv ad μ p i ci k0 = cv ad v) (hlv : ∀ ad H, Rel E.1 ad μ H → LvV μ v) (kk : Z own cc mm E k n μ (pc + 3) ls (v :: st)) : Z own cc mm E k n μ pc ls (vr p i :: st) := by
  intro ad H locs la h
  obtain ⟨r, hc, hk0, -, hlink⟩ := hf
  obtain ⟨⟨cell, q1, q2, q3, -, q4⟩, -⟩ := h.rel.obj h.lst.hd hp hc
  obtain ⟨hin, hty, hnm⟩ := clOK hc
  have hX : XW (cS E) := h.1.2.2.2.2.2.2.2.2.2.2.1
  have hK := h.1.2.2.2.2.2.2.2.2.2.2.2.1
  obtain ⟨hS, hfc, kC, hkC, hkind⟩ := hK.1 ci _ hc
  obtain ⟨cf, kf, fi, f, hi, hsl⟩ := hS k0 hk0
  have hst := (u_facts hfc hkC (u_lays (fun w hw => hX.all hw (cAr E)) hin hk0) hi).1
  have hsv : cell.slots[f.slot]? = some (cv ad v) := by rw [hsl, q4 k0 hk0, hv]
  have hun : cell.vm ≠ .unknown := by rw [q3]; exact fun h => by cases h
  have kk' := kk ad H locs la (h.stk (LvL.cons (hlv ad H h.rel) h.lst.tl))
  rcases hlink with hl | ⟨host, hl⟩
  · exact W.getf h.ex h.bs h.ow (hX.all hl _) hi hst q1 hun hsv rfl rfl hd kk'
  · exact va_Wgetf h.ex h.bs h.ow (hX.1 _ hl rfl _) hi hst q1 hun hsv rfl rfl hd kk'
theorem z_getI {idx ci k0 : Nat} {fin : Bool} (hf : FL own idx ci k0 fin) (hd : decode cc pc = .ok (.getfield idx, 3)) (hp : kd p = .inl ci) (hr : (tyT ci k0).isReference = false) (kk : Z own cc mm E k n μ (pc + 3) ls (vi (gI μ p i k0) :: st)) : Z own cc mm E k n μ pc ls (vr p i :: st) :=
  z_getV (v := vi (gI μ p i k0)) hf hd hp (fun ad => by unfold fv; rw [hr]; rfl) (fun _ _ _ => trivial) kk
theorem z_getP {idx ci k0 : Nat} {fin : Bool} (hf : FL own idx ci k0 fin) (hd : decode cc pc = .ok (.getfield idx, 3)) (hp : kd p = .inl ci) (hr : (tyT ci k0).isReference = true) {v : Option (Nat × Nat)} (hv : gP μ p i k0 = v) (kk : Z own cc mm E k n μ (pc + 3) ls (vo v :: st)) : Z own cc mm E k n μ pc ls (vr p i :: st) := by
  subst hv
  exact z_getV hf hd hp (fun ad => by unfold fv; rw [hr]; rfl) (fun _ _ hR => hR.live p i k0) kk
theorem OB.put {o : Nat} {cC : ClassId} {N k0 : Nat} {iS : Nat → Nat} {V V' : Nat → Value} {cell : Cell} {v : Value} (q2 : cell.cls = cC) (q3 : cell.vm = .none) (qm : cell.monitor.owner = none ∧ cell.monitor.count = 0) (q4 : ∀ k, k < N → cell.slots[iS k]? = some (V k)) (hap : ∀ a b, a < N → b < N → a ≠ b → iS a ≠ iS b) (hk : k0 < N) (hV : ∀ j, V' j = updV V k0 v j) (e1 : H'[o]? = some (cell.setSlot (iS k0) v)) : OB o cC N iS H' V' :=
  ⟨_, e1, q2, q3, qm, fun j hj => by rw [hV]; exact t_set q4 hap hk v j hj⟩
theorem z_putV {idx ci k0 : Nat} {v : AV} (hf : FL own idx ci k0 false) (hd : decode cc pc = .ok (.putfield idx, 3)) (hp : kd p = .inl ci) (hn : ∀ ad, narrow (tyT ci k0) (cv ad v) = cv ad v ∧ fits (tyT ci k0) (cv ad v) = true) (hU : UpAt μ μ' p i) (hV : ∀ ad j, fv ad μ' p i ci j = updV (fv ad μ p i ci) k0 (cv ad v) j) (hcl : ∀ p i k h, gP μ' p i k = some h → gP μ p i k = some h ∨ v = vo (some h)) (kk : Z own cc mm E k n μ' (pc + 3) ls st) : Z own cc mm E k n μ pc ls (v :: vr p i :: st) := by
  intro ad H locs la h
  obtain ⟨r, hc, hk0, hfin, hlink⟩ := hf
  obtain ⟨⟨cell, q1, q2, q3, qm, q4⟩, hge⟩ := h.rel.obj h.lst.tl.hd hp hc
  obtain ⟨hin, hty, hnm⟩ := clOK hc
  have hX : XW (cS E) := h.1.2.2.2.2.2.2.2.2.2.2.1
  have hK := h.1.2.2.2.2.2.2.2.2.2.2.2.1
  have hts : ∀ w ∈ lw_all, w.before (cAr E) (cS E) = true := fun w hw => hX.all hw (cAr E)
  have hap := va_apart (own := own) hts hin (tyT ci) hty hnm hK hc
  obtain ⟨hS, hfc, kC, hkC, hkind⟩ := hK.1 ci _ hc
  obtain ⟨cf, kf, fi, f, hi, hsl⟩ := hS k0 hk0
  have hlay := hts _ (hin _ (u_in_lay hk0))
  unfold u_lay at hlay
  rw [if_neg (by rw [hfin]; decide)] at hlay
  have hst := (u_facts hfc hkC (u_lays hts hin hk0) hi).1
  have h6 : k2_Sd (cS E) f cell.cls (cv ad v) := by rw [q2]; exact u_store hfc hkC hkind hlay hi (hty k0 hk0) (hn ad).1 (hn ad).2
  have hlt : f.slot < cell.slots.size := by rw [hsl]; exact k2_hasslot (q4 k0 hk0)
  have go : ∀ H' : Heap, H'[ad p i]? = some (cell.setSlot f.slot (cv ad v)) → H'.size = H.size → (∀ q, q ≠ ad p i → H'[q]? = H[q]?) → Wc E H' (locs ++ [⟨ad p i, f.slot⟩]) k n (F0 (cM E) (pc + 3) la (st.map (cv ad))) := by
    intro H' e1 e2 e3
    rw [hsl] at e1
    refine kk ad H' _ la (h.upd (H' := H') hU h.lst.tl.tl (h.rel.upd (kd_ne0 hp hc) h.lst.tl.hd hU (fun p' i' k' x hx => ?_) e2 e3 ?_) hge)
    · rcases hcl p' i' k' x hx with hx' | hx'
      · exact h.rel.2.2.2.2.1 p' i' k' x hx'
      · have := h.lst.hd
        rw [hx'] at this
        exact this
    · unfold Cel
      rw [hp]
      exact ⟨r, hc, OB.put q2 q3 qm q4 hap hk0 (hV ad) e1⟩
  rcases hlink with hl | ⟨host, hl⟩
  · exact W.putK h.ex h.bs (f := f) ⟨h.ow, hX.all hl _, ⟨_, _, _, hi⟩, hst⟩ h6 q1 q3 hlt rfl rfl hd go
  · exact va_WputK h.ex h.bs h.ow (hX.1 _ hl rfl _) hi hst h6 q1 q3 hlt rfl rfl hd go
theorem z_putFV {idx ci k0 : Nat} {v : AV} (hf : FF own idx ci k0) (hini : mm.2.2.2.1 = true) (hd : decode cc pc = .ok (.putfield idx, 3)) (hp : kd p = .inl ci) (hn : ∀ ad, narrow (tyT ci k0) (cv ad v) = cv ad v ∧ fits (tyT ci k0) (cv ad v) = true) (hU : UpAt μ μ' p i) (hV : ∀ ad j, fv ad μ' p i ci j = updV (fv ad μ p i ci) k0 (cv ad v) j) (hcl : ∀ p i k h, gP μ' p i k = some h → gP μ p i k = some h ∨ v = vo (some h)) (kk : Z own cc mm E k n μ' (pc + 3) ls st) : Z own cc mm E k n μ pc ls (v :: vr p i :: st) := by
  intro ad H locs la h
  obtain ⟨r, hc, hk0, hfin, hdecl, hl⟩ := hf
  obtain ⟨⟨cell, q1, q2, q3, qm, q4⟩, hge⟩ := h.rel.obj h.lst.tl.hd hp hc
  obtain ⟨hin, hty, hnm⟩ := clOK hc
  have hX : XW (cS E) := h.1.2.2.2.2.2.2.2.2.2.2.1
  have hK := h.1.2.2.2.2.2.2.2.2.2.2.2.1
  have hts : ∀ w ∈ lw_all, w.before (cAr E) (cS E) = true := fun w hw => hX.all hw (cAr E)
  have hap := va_apart (own := own) hts hin (tyT ci) hty hnm hK hc
  obtain ⟨hS, hfc, kC, hkC, hkind⟩ := hK.1 ci _ hc
  obtain ⟨cf, kf, fi, f, hi, hsl⟩ := hS k0 hk0
  have hlay := hts _ (hin _ (u_in_lay hk0))
  unfold u_lay at hlay
  rw [if_pos hfin] at hlay
  have hst := (u_facts hfc hkC (u_lays hts hin hk0) hi).1
  have hcf : (cM E).cls = cf := by
    obtain ⟨_, _, c', _, _, _, -, -, hf', -, -, -, hown2, -⟩ := Cond.laysFinal_spec hlay
    have e1 : c' = cf := by have := hi.symm.trans hf'; simp at this; exact this.1.symm
    rw [hdecl] at hown2
    rw [← e1]; exact Option.some.inj (h.ow.symm.trans hown2)
  have h6 := u_fits hfc hkC hkind (Or.inr hlay) hi (hty k0 hk0) (hn ad).1 (hn ad).2
  have hlt : f.slot < cell.slots.size := by rw [hsl]; exact k2_hasslot (q4 k0 hk0)
  refine W.putFinK h.ex h.bs h.ow (hX.all hl _) hi hst hcf (h.1.2.2.2.2.2.2.1 hini) (by rw [q2]; exact h6) q1 q3 hlt rfl rfl hd fun H' e1 e2 e3 => ?_
  rw [hsl] at e1
  refine kk ad H' _ la (h.upd (H' := H') hU h.lst.tl.tl (h.rel.upd (kd_ne0 hp hc) h.lst.tl.hd hU (fun p' i' k' x hx => ?_) e2 e3 ?_) hge)
  · rcases hcl p' i' k' x hx with hx' | hx'
    · exact h.rel.2.2.2.2.1 p' i' k' x hx'
    · have := h.lst.hd
      rw [hx'] at this
      exact this
  · unfold Cel
    rw [hp]
    exact ⟨r, hc, OB.put q2 q3 qm q4 hap hk0 (hV ad) e1⟩
theorem fv_sI {ci k0 : Nat} {x : Int32} (hr : (tyT ci k0).isReference = false) (ad : Ad) (j : Nat) : fv ad (sI μ p i k0 x) p i ci j = updV (fv ad μ p i ci) k0 (cv ad (vi x)) j := by
  unfold fv updV
  by_cases e : j = k0
  · subst e
    simp [hr, gI_sI, cv_vi]
  · simp [e, gI_sI, gP_sI]
theorem fv_sP {ci k0 : Nat} {x : Option (Nat × Nat)} (hr : (tyT ci k0).isReference = true) (ad : Ad) (j : Nat) : fv ad (sP μ p i k0 x) p i ci j = updV (fv ad μ p i ci) k0 (cv ad (vo x)) j := by
  unfold fv updV
  by_cases e : j = k0
  · subst e
    simp [hr, gP_sP, cv_vo]
  · simp [e, gP_sP, gI_sP]
theorem cl_sP {p0 i0 k0 : Nat} {x : Option (Nat × Nat)} : ∀ p i k h, gP (sP μ p0 i0 k0 x) p i k = some h → gP μ p i k = some h ∨ vo x = vo (some h) := by
  intro p i k h hh
  rw [gP_sP] at hh
  split at hh
  · right; rw [hh]
  · left; exact hh
theorem fits_ref {t : FieldType} (h : t.isReference = true) (r : Option (Nat × Nat)) (ad : Ad) : narrow t (cv ad (vo r)) = cv ad (vo r) ∧ fits t (cv ad (vo r)) = true := by
  cases r <;> cases t <;> first | exact ⟨rfl, rfl⟩ | cases h
theorem z_putI {idx ci k0 : Nat} {x : Int32} (hf : FL own idx ci k0 false) (hd : decode cc pc = .ok (.putfield idx, 3)) (hp : kd p = .inl ci) (hr : (tyT ci k0).isReference = false) (hn : narrow (tyT ci k0) (.int x) = .int x ∧ fits (tyT ci k0) (.int x) = true) (kk : Z own cc mm E k n (sI μ p i k0 x) (pc + 3) ls st) : Z own cc mm E k n μ pc ls (vi x :: vr p i :: st) :=
  z_putV hf hd hp (fun _ => hn) (UpAt.I μ p i k0 x) (fv_sI hr) (fun _ _ _ _ h => Or.inl h) kk
theorem z_putP {idx ci k0 : Nat} {x : Option (Nat × Nat)} (hf : FL own idx ci k0 false) (hd : decode cc pc = .ok (.putfield idx, 3)) (hp : kd p = .inl ci) (hr : (tyT ci k0).isReference = true) (kk : Z own cc mm E k n (sP μ p i k0 x) (pc + 3) ls st) : Z own cc mm E k n μ pc ls (vo x :: vr p i :: st) :=
  z_putV hf hd hp (fun ad => fits_ref hr x ad) (UpAt.P μ p i k0 x) (fv_sP hr) cl_sP kk
theorem z_putFI {idx ci k0 : Nat} {x : Int32} (hf : FF own idx ci k0) (hini : mm.2.2.2.1 = true) (hd : decode cc pc = .ok (.putfield idx, 3)) (hp : kd p = .inl ci) (hr : (tyT ci k0).isReference = false) (hn : narrow (tyT ci k0) (.int x) = .int x ∧ fits (tyT ci k0) (.int x) = true) (kk : Z own cc mm E k n (sI μ p i k0 x) (pc + 3) ls st) : Z own cc mm E k n μ pc ls (vi x :: vr p i :: st) :=
  z_putFV hf hini hd hp (fun _ => hn) (UpAt.I μ p i k0 x) (fv_sI hr) (fun _ _ _ _ h => Or.inl h) kk
theorem z_putFP {idx ci k0 : Nat} {x : Option (Nat × Nat)} (hf : FF own idx ci k0) (hini : mm.2.2.2.1 = true) (hd : decode cc pc = .ok (.putfield idx, 3)) (hp : kd p = .inl ci) (hr : (tyT ci k0).isReference = true) (kk : Z own cc mm E k n (sP μ p i k0 x) (pc + 3) ls st) : Z own cc mm E k n μ pc ls (vo x :: vr p i :: st) :=
  z_putFV hf hini hd hp (fun ad => fits_ref hr x ad) (UpAt.P μ p i k0 x) (fv_sP hr) cl_sP kk
/-! arrays -/
/-- x is the number j, below N -/
def Ix (x : Int32) (j N : Nat) : Prop := x = nI j ∧ j < N ∧ N ≤ 2147483648
theorem Ix.cl {x : Int32} {j N : Nat} (h : Ix x j N) : x.toNatClampNeg = j := by rw [h.1]; exact nI_clamp (by have := h.2.1; have := h.2.2; omega)
theorem Ix.in {x : Int32} {j N : Nat} (h : Ix x j N) : ¬ (x < 0 ∨ N ≤ x.toNatClampNeg) := by
  have h2 := h.2.1
  have h3 := h.2.2
  rw [h.cl]
  rintro (q | q)
  · rw [h.1] at q; exact nI_pos (by omega) q
  · omega
theorem Ix.mk (j : Nat) {N : Nat} (h : j < N) (hN : N ≤ 2147483648 := by decide) : Ix (nI j) j N := ⟨rfl, h, hN⟩
theorem tys_at {cA : Nat → ClassId} {t : Nat} (ht : t < 13) : (tysL cA)[t]? = some (cA t, tyA.getD t .int) := by
  unfold tysL
  rw [List.getElem?_map, List.getElem?_range ht]
  rfl
theorem Hy.arr (h : Hy own cc mm E μ ls st ad H locs la) {t : Nat} (ht : t < 13) (N : Nat) (f : Nat → Value) : (cS E).isArrayOf (arrV (E.1.2.1 t) N f) (tyA.getD t .int) := (h.1.2.2.2.2.2.2.2.2.2.2.2.1.2 t _ (tys_at ht)).1 N f
theorem arrV_in {cI : ClassId} {N j : Nat} {f : Nat → Value} {x : Int32} (h : Ix x j N) : ¬ (x < 0 ∨ (arrV cI N f).slots.size ≤ x.toNatClampNeg) := by rw [arrV_size]; exact h.in
theorem arrV_at {cI : ClassId} {N j : Nat} {f : Nat → Value} {x : Int32} (h : Ix x j N) : (arrV cI N f).slots[x.toNatClampNeg]? = some (f j) := by rw [h.cl]; exact arrV_read _ _ h.2.1
theorem z_iald {x : Int32} {j : Nat} (hd : decode cc pc = .ok (.iaload, 1)) (hp : kd p = .inr (0, 0)) (hi : Ix x j (gL μ p i)) (kk : Z own cc mm E k n μ (pc + 1) ls (vi (gI μ p i j) :: st)) : Z own cc mm E k n μ pc ls (vi x :: vr p i :: st) := by
  intro ad H locs la h
  obtain ⟨h1, -⟩ := h.rel.arrI h.lst.tl.hd hp
  exact W.iald h.ex h.bs h1 (h.arr (t := 0) (by decide) _ _) (fun q => by cases q) (arrV_in hi) (arrV_at hi) rfl rfl hd (kk ad H locs la (h.stk h.lst.tl.tl.i))
theorem z_bald {x : Int32} {j : Nat} (hd : decode cc pc = .ok (.baload, 1)) (hp : kd p = .inr (1, 0)) (hi : Ix x j (gL μ p i)) (kk : Z own cc mm E k n μ (pc + 1) ls (vi (gI μ p i j) :: st)) : Z own cc mm E k n μ pc ls (vi x :: vr p i :: st) := by
  intro ad H locs la h
  obtain ⟨h1, -⟩ := h.rel.arrI h.lst.tl.hd hp
  exact W.bald h.ex h.bs h1 (h.arr (t := 1) (by decide) _ _) (fun q => by cases q) (arrV_in hi) (arrV_at hi) rfl rfl hd (kk ad H locs la (h.stk h.lst.tl.tl.i))
theorem z_zald {x : Int32} {j : Nat} (hd : decode cc pc = .ok (.baload, 1)) (hp : kd p = .inr (2, 0)) (hi : Ix x j (gL μ p i)) (kk : Z own cc mm E k n μ (pc + 1) ls (vi (gI μ p i j) :: st)) : Z own cc mm E k n μ pc ls (vi x :: vr p i :: st) := by
  intro ad H locs la h
  obtain ⟨h1, -⟩ := h.rel.arrI h.lst.tl.hd hp
  exact W.zald h.ex h.bs h1 (h.arr (t := 2) (by decide) _ _) (fun q => by cases q) (arrV_in hi) (arrV_at hi) rfl rfl hd (kk ad H locs la (h.stk h.lst.tl.tl.i))
theorem z_lald {x : Int32} {j : Nat} (hd : decode cc pc = .ok (.laload, 1)) (hp : kd p = .inr (3, 2)) (hi : Ix x j (gL μ p i)) (kk : Z own cc mm E k n μ (pc + 1) ls (vl (gJ μ p i j) :: st)) : Z own cc mm E k n μ pc ls (vi x :: vr p i :: st) := by
  intro ad H locs la h
  obtain ⟨h1, -⟩ := h.rel.arrJ h.lst.tl.hd hp
  exact W.lald h.ex h.bs h1 (h.arr (t := 3) (by decide) _ _) (fun q => by cases q) (arrV_in hi) (arrV_at hi) rfl rfl hd (kk ad H locs la (h.stk h.lst.tl.tl.l))
theorem z_aald {x : Int32} {j t : Nat} (hd : decode cc pc = .ok (.aaload, 1)) (hp : kd p = .inr (t, 1)) (ht : t < 13) (hr : (tyA.getD t .int).isReference = true) (hi : Ix x j (gL μ p i)) {v : Option (Nat × Nat)} (hv : gP μ p i j = v) (kk : Z own cc mm E k n μ (pc + 1) ls (vo v :: st)) : Z own cc mm E k n μ pc ls (vi x :: vr p i :: st) := by
  subst hv
  intro ad H locs la h
  obtain ⟨h1, -⟩ := h.rel.arrP h.lst.tl.hd hp
  exact W.aald h.ex h.bs h1 (h.arr (t := t) ht _ _) hr (fun q => by cases q) (arrV_in hi) (arrV_at hi) rfl rfl hd (kk ad H locs la (h.stk (LvL.cons (h.rel.live p i j) h.lst.tl.tl)))
theorem z_alen {q : Nat × Nat} (hd : decode cc pc = .ok (.arraylength, 1)) (hp : kd p = .inr q) (ht : q.1 < 13 ∧ q.2 < 3) (kk : Z own cc mm E k n μ (pc + 1) ls (vi (nI (gL μ p i)) :: st)) : Z own cc mm E k n μ pc ls (vr p i :: st) := by
  intro ad H locs la h
  have hR := (h.rel.2.2.1 p i (kd_ne0A hp) h.lst.hd).2
  unfold Cel at hR
  rw [hp] at hR
  have kk' := kk ad H locs la (h.stk h.lst.tl.i)
  match q, ht, hR with
  | (t, 0), ht, h1 => exact W.alen h.ex h.bs h1 (h.arr (t := t) ht.1 _ _) (by rw [arrV_size]; rfl) rfl rfl hd kk'
  | (t, 1), ht, h1 => exact W.alen h.ex h.bs h1 (h.arr (t := t) ht.1 _ _) (by rw [arrV_size]; rfl) rfl rfl hd kk'
  | (t, 2), ht, h1 => exact W.alen h.ex h.bs h1 (h.arr (t := t) ht.1 _ _) (by rw [arrV_size]; rfl) rfl rfl hd kk'
  | (t, s + 3), ht, h1 => exact absurd ht.2 (by show ¬ s + 3 < 3; omega)
theorem arr_sI {cI : ClassId} {N j : Nat} {x : Int32} : (arrV cI N (fun q => .int (gI μ p i q))).setSlot j (.int x) = arrV cI N (fun q => .int (gI (sI μ p i j x) p i q)) := by
  rw [arrV_store]
  congr 1
  funext q
  unfold updV
  rw [gI_sI]
  by_cases e : q = j
  · subst e; simp
  · simp [e]
theorem arr_sP {cI : ClassId} {N j : Nat} {x : Option (Nat × Nat)} : (arrV cI N (fun q => cr ad (gP μ p i q))).setSlot j (cr ad x) = arrV cI N (fun q => cr ad (gP (sP μ p i j x) p i q)) := by
  rw [arrV_store]
  congr 1
  funext q
  unfold updV
  rw [gP_sP]
  by_cases e : q = j
  · subst e; simp
  · simp [e]
theorem arr_sJ {cI : ClassId} {N j : Nat} {x : Int64} : (arrV cI N (fun q => .long (gJ μ p i q))).setSlot j (.long x) = arrV cI N (fun q => .long (gJ (sJ μ p i j x) p i q)) := by
  rw [arrV_store]
  congr 1
  funext q
  unfold updV
  rw [gJ_sJ]
  by_cases e : q = j
  · subst e; simp
  · simp [e]
theorem Rel.aI {t j : Nat} {x : Int32} (hR : Rel Γ ad μ H) (hl : Lv μ (p, i)) (hp : kd p = .inr (t, 0)) (e1 : H'[ad p i]? = some ((arrV (Γ.2.1 t) (gL μ p i) (fun q => .int (gI μ p i q))).setSlot j (.int x))) (e2 : H'.size = H.size) (e3 : ∀ q, q ≠ ad p i → H'[q]? = H[q]?) : Rel Γ ad (sI μ p i j x) H' := by
  refine hR.upd (kd_ne0A hp) hl (UpAt.I μ p i j x) (fun p' i' k' h hh => hR.2.2.2.2.1 p' i' k' h hh) e2 e3 ?_
  unfold Cel
  rw [hp]
  rw [arr_sI] at e1
  exact e1
theorem z_iast {x y : Int32} {j : Nat} (hd : decode cc pc = .ok (.iastore, 1)) (hp : kd p = .inr (0, 0)) (hi : Ix x j (gL μ p i)) (kk : Z own cc mm E k n (sI μ p i j y) (pc + 1) ls st) : Z own cc mm E k n μ pc ls (vi y :: vi x :: vr p i :: st) := by
  intro ad H locs la h
  obtain ⟨h1, hge⟩ := h.rel.arrI h.lst.tl.tl.hd hp
  refine W.iast h.ex h.bs h1 (h.arr (t := 0) (by decide) _ _) (fun q => by cases q) (arrV_in hi) rfl rfl hd fun H' e1 e2 e3 => ?_
  rw [hi.cl] at e1
  exact kk ad H' _ la (h.upd (UpAt.I μ p i j y) h.lst.tl.tl.tl (h.rel.aI h.lst.tl.tl.hd hp e1 e2 e3) hge)
theorem z_bast {x y : Int32} {j : Nat} (hd : decode cc pc = .ok (.bastore, 1)) (hp : kd p = .inr (1, 0)) (hi : Ix x j (gL μ p i)) (kk : Z own cc mm E k n (sI μ p i j y.toInt8.toInt32) (pc + 1) ls st) : Z own cc mm E k n μ pc ls (vi y :: vi x :: vr p i :: st) := by
  intro ad H locs la h
  obtain ⟨h1, hge⟩ := h.rel.arrI h.lst.tl.tl.hd hp
  refine W.bast h.ex h.bs h1 (h.arr (t := 1) (by decide) _ _) (fun q => by cases q) (arrV_in hi) rfl rfl hd fun H' e1 e2 e3 => ?_
  rw [hi.cl] at e1
  exact kk ad H' _ la (h.upd (UpAt.I μ p i j _) h.lst.tl.tl.tl (h.rel.aI h.lst.tl.tl.hd hp e1 e2 e3) hge)
theorem z_zast {x y : Int32} {j : Nat} (hd : decode cc pc = .ok (.bastore, 1)) (hp : kd p = .inr (2, 0)) (hi : Ix x j (gL μ p i)) (hy : narrow .boolean (.int y) = .int y) (kk : Z own cc mm E k n (sI μ p i j y) (pc + 1) ls st) : Z own cc mm E k n μ pc ls (vi y :: vi x :: vr p i :: st) := by
  intro ad H locs la h
  obtain ⟨h1, hge⟩ := h.rel.arrI h.lst.tl.tl.hd hp
  refine W.zast h.ex h.bs h1 (h.arr (t := 2) (by decide) _ _) (fun q => by cases q) (arrV_in hi) rfl rfl hd fun H' e1 e2 e3 => ?_
  rw [hi.cl, hy] at e1
  exact kk ad H' _ la (h.upd (UpAt.I μ p i j y) h.lst.tl.tl.tl (h.rel.aI h.lst.tl.tl.hd hp e1 e2 e3) hge)
theorem z_last {x : Int32} {y : Int64} {j : Nat} (hd : decode cc pc = .ok (.lastore, 1)) (hp : kd p = .inr (3, 2)) (hi : Ix x j (gL μ p i)) (kk : Z own cc mm E k n (sJ μ p i j y) (pc + 1) ls st) : Z own cc mm E k n μ pc ls (vl y :: vi x :: vr p i :: st) := by
  intro ad H locs la h
  obtain ⟨h1, hge⟩ := h.rel.arrJ h.lst.tl.tl.hd hp
  refine W.last h.ex h.bs h1 (h.arr (t := 3) (by decide) _ _) (fun q => by cases q) (arrV_in hi) rfl rfl hd fun H' e1 e2 e3 => ?_
  rw [hi.cl, arr_sJ] at e1
  refine kk ad H' _ la (h.upd (UpAt.J μ p i j y) h.lst.tl.tl.tl (h.rel.upd (kd_ne0A hp) h.lst.tl.tl.hd (UpAt.J μ p i j y) (fun p' i' k' h' hh => h.rel.2.2.2.2.1 p' i' k' h' hh) e2 e3 ?_) hge)
  unfold Cel
  rw [hp]
  exact e1
/-- an object of a class into an array of that class -/
theorem z_aast {x : Int32} {j t ci p' i' : Nat} {r : vw_C} (hd : decode cc pc = .ok (.aastore, 1)) (hp : kd p = .inr (t, 1)) (ht : t < 13) (hp' : kd p' = .inl ci) (hc : cl[ci]? = some r) (hty : tyA.getD t .int = .object r.1) (hi : Ix x j (gL μ p i)) (kk : Z own cc mm E k n (sP μ p i j (some (p', i'))) (pc + 1) ls st) : Z own cc mm E k n μ pc ls (vr p' i' :: vi x :: vr p i :: st) := by
  intro ad H locs la h
  obtain ⟨h1, hge⟩ := h.rel.arrP h.lst.tl.tl.hd hp
  obtain ⟨⟨cell, g1, g2, g3, -⟩, -⟩ := h.rel.obj h.lst.hd hp' hc
  have hK := h.1.2.2.2.2.2.2.2.2.2.2.2.1
  have hcls := (hK.1 ci r hc).2
  have hRA := (hK.2 t _ (tys_at ht)).2
  rw [hty] at hRA
  obtain ⟨kA, comp, k1, k2, k3, -⟩ := hRA
  have hcomp : comp = E.1.1.1 ci := Option.some.inj (k3.symm.trans hcls.1)
  subst hcomp
  obtain ⟨kC, hkC, -⟩ := hcls.2
  refine W.aast h.ex h.bs h1 (fun q h => by cases h) (fun h => by cases h) k1 k2 rfl hkC ⟨fun q => hi.in (Or.inl q), by show _ < (arrV _ _ _).slots.size; rw [arrV_size, hi.cl]; exact hi.2.1⟩ g1 (fun q h => by rw [g3] at h; cases h) (by rw [g2]; exact hkC) (by rw [g2]; exact va_assign hcls) rfl rfl hd fun H' e1 e2 e3 => ?_
  have e1 : H'[ad p i]? = some ((arrV (E.1.2.1 t) (gL μ p i) (fun q => cr ad (gP μ p i q))).setSlot x.toNatClampNeg (cr ad (some (p', i')))) := e1
  rw [hi.cl, arr_sP] at e1
  refine kk ad H' _ la (h.upd (UpAt.P μ p i j _) h.lst.tl.tl.tl (h.rel.upd (kd_ne0A hp) h.lst.tl.tl.hd (UpAt.P μ p i j _) (fun p' i' k' h' hh => ?_) e2 e3 ?_) hge)
  · rcases cl_sP p' i' k' h' hh with q | q
    · exact h.rel.2.2.2.2.1 p' i' k' h' q
    · exact (show LvV μ (vo (some h')) from q ▸ (h.lst.hd : LvV μ (vo (some _))))
  · unfold Cel
    rw [hp]
    exact e1
/-! new cells -/
def upA (ad : Ad) (p i a : Nat) : Ad := va_up ad p (va_up (ad p) i a)
theorem upA_eq (ad : Ad) (p i a p' i' : Nat) : upA ad p i a p' i' = if p' = p ∧ i' = i then a else ad p' i' := v2_eq _ _ _ _ _ _
theorem upA_lv {a : Nat} (ad : Ad) (p : Nat) {h : Nat × Nat} (hl : Lv μ h) : upA ad p (gC μ p) a h.1 h.2 = ad h.1 h.2 := by
  rw [upA_eq, if_neg]
  rintro ⟨e1, e2⟩
  have hl : h.2 < gC μ h.1 := hl
  rw [e1, e2] at hl
  exact Nat.lt_irrefl _ hl
theorem upA_cr {a : Nat} (ad : Ad) (p : Nat) {r : Option (Nat × Nat)} (hl : LvV μ (vo r)) : cr (upA ad p (gC μ p) a) r = cr ad r := by
  cases r with
  | none => rfl
  | some h => show Value.ref _ = Value.ref _; rw [upA_lv (μ := μ) ad p hl]
theorem upA_cv {a : Nat} (ad : Ad) (p : Nat) {v : AV} (hl : LvV μ v) : cv (upA ad p (gC μ p) a) v = cv ad v := by
  match v, hl with
  | .inl _, _ => rfl
  | .inr (.inl r), hl => exact upA_cr ad p hl
  | .inr (.inr _), _ => rfl
theorem Mn_nw (μ : Mem) (p m : Nat) : Mn μ (nw μ p m) := fun q => by
  rw [gC_nw]
  split
  · rename_i e; rw [e]; exact Nat.le_succ _
  · exact Nat.le_refl _
theorem Rel.mk1 {m : Nat} (hR : Rel Γ ad μ H) (hp : p ≠ 0) (hm : ¬ (p = 27 ∨ p = 46) → m = fl p) (hz : H'.size = H.size + 1) (ho : ∀ q, q < H.size → H'[q]? = H[q]?) (hc : Cel Γ (upA ad p (gC μ p) H.size) (nw μ p m) H' p (gC μ p)) : Rel Γ (upA ad p (gC μ p) H.size) (nw μ p m) H' := by
  obtain ⟨⟨h1, h2⟩, ⟨h3, h4⟩, h5, h6, h7, h8⟩ := hR
  have hold : ∀ p' i', i' < gC (nw μ p m) p' → ¬ (p' = p ∧ i' = gC μ p) → i' < gC μ p' := by
    intro p' i' a b
    rw [gC_nw] at a
    split at a
    · rename_i e
      have : i' ≠ gC μ p := fun q => b ⟨e, q⟩
      rw [e]; omega
    · exact a
  refine ⟨⟨fun q hq => by rw [ho q (by omega)]; exact h1 q hq, by omega⟩, ⟨by rw [gC_nw, if_neg (fun e => hp e.symm)]; exact h3, fun i' => by rw [upA_eq, if_neg (fun e => hp e.1.symm)]; exact h4 i'⟩, fun p' i' hp' hl' => ?_, fun p1 i1 p2 i2 a b c d e => ?_, fun p' i' k' h hh => ?_, fun p' i' k' hh => ?_⟩
  · by_cases e : p' = p ∧ i' = gC μ p
    · rw [e.1, e.2]
      refine ⟨by rw [upA_eq, if_pos ⟨rfl, rfl⟩]; exact h2, hc⟩
    · have hl := hold p' i' hl' e
      obtain ⟨g1, g2⟩ := h5 p' i' hp' hl
      have ha : upA ad p (gC μ p) H.size p' i' = ad p' i' := by rw [upA_eq, if_neg e]
      refine ⟨by rw [ha]; exact g1, g2.congr ha (fun k' => by rw [gI_nw, if_neg e]) (fun k' => ?_) (fun k' => by rw [gJ_nw, if_neg e]) (by rw [gL_nw _ _ _ _ _ hm, if_neg e]) (ho _ g2.lt)⟩
      rw [gP_nw, if_neg e]
      refine upA_cr ad p ?_
      cases hx : gP μ p' i' k' with
      | none => trivial
      | some q => exact h7 p' i' k' q hx
  · rw [upA_eq, upA_eq] at e
    by_cases e1 : p1 = p ∧ i1 = gC μ p
    · by_cases e2 : p2 = p ∧ i2 = gC μ p
      · exact ⟨e1.1.trans e2.1.symm, e1.2.trans e2.2.symm⟩
      · rw [if_pos e1, if_neg e2] at e
        have := (h5 p2 i2 b (hold p2 i2 d e2)).2.lt
        omega
    · by_cases e2 : p2 = p ∧ i2 = gC μ p
      · rw [if_neg e1, if_pos e2] at e
        have := (h5 p1 i1 a (hold p1 i1 c e1)).2.lt
        omega
      · rw [if_neg e1, if_neg e2] at e
        exact h6 p1 i1 p2 i2 a b (hold p1 i1 c e1) (hold p2 i2 d e2) e
  · rw [gP_nw] at hh
    split at hh
    · cases hh
    · exact Lv.mn (Mn_nw μ p m) (h7 p' i' k' h hh)
  · have e : ¬ (p' = p ∧ i' = gC μ p) := fun q => by
      rw [q.1, q.2, gC_nw, if_pos rfl] at hh
      omega
    rw [gI_nw, if_neg e, gP_nw, if_neg e]
    exact h8 p' i' k' (Nat.le_trans (Mn_nw μ p m p') hh)
theorem Hy.mk1 {m : Nat} (h : Hy own cc mm E μ ls st ad H locs la) (hR : Rel E.1 (upA ad p (gC μ p) H.size) (nw μ p m) H') : Hy own cc mm E (nw μ p m) ls (vr p (gC μ p) :: st) (upA ad p (gC μ p) H.size) H' locs la := by
  have hm := Mn_nw μ p m
  refine ⟨h.1, ⟨h.2.1.1.tr hm, fun p' i' hi => ?_⟩, h.2.2.1, hR, h.lo.mn hm, LvL.cons ?_ (h.lst.mn hm), h.lc.1, h.lc.2.1, fun i' v hv => ?_⟩
  · have hl : Lv μ (p', i') := Nat.lt_of_lt_of_le hi (h.2.1.1 p')
    rw [upA_lv (μ := μ) ad p hl]
    exact h.2.1.2 p' i' hi
  · show gC μ p < gC (nw μ p m) p
    rw [gC_nw, if_pos rfl]
    exact Nat.lt_succ_self _
  · rw [upA_cv (μ := μ) ad p (h.lo.at hv)]
    exact h.lc.2.2 i' v hv
theorem map_upA {a : Nat} (hs : LvL μ st) : st.map (cv (upA ad p (gC μ p) a)) = st.map (cv ad) := List.map_congr_left fun v hv => upA_cv ad p (hs v hv)
def okT : FieldType → Bool
  | .long => false
  | .float => false
  | .double => false
  | _ => true
theorem okT_def {t : FieldType} (h : okT t = true) : defaultValue t = if t.isReference = true then .null else .int 0 := by
  cases t <;> first | rfl | cases h
/-- 'new' at a pool entry makes an object of a class -/
def NW (own : String) (idx ci N : Nat) : Prop := ∃ C T, cl[ci]? = some (C, T, N) ∧ Cond.classLink own idx C ∈ lw_all ∧ Cond.instantiable C N ∈ lw_all ∧ Cond.initialized C ∈ lw_all ∧ ∀ j, j < N → okT (tyT ci j) = true
theorem z_new {idx ci N : Nat} (p : Nat) (hw : NW own idx ci N) (hd : decode cc pc = .ok (.new idx, 3)) (hp : kd p = .inl ci) (hp2 : ¬ (p = 27 ∨ p = 46)) (hfl : fl p = 0) (hk : k + 1 ≤ mm.2.2.2.2.cells) (hn : n + N ≤ mm.2.2.2.2.slots) (kk : Z own cc mm E (k + 1) (n + N) (nw μ p 0) (pc + 3) ls (vr p (gC μ p) :: st)) : Z own cc mm E k n μ pc ls st := by
  intro ad H locs la h
  obtain ⟨C, T, hc, w1, w2, w3, hok⟩ := hw
  obtain ⟨hin, hty, hnm⟩ := clOK hc
  have hX : XW (cS E) := h.1.2.2.2.2.2.2.2.2.2.2.1
  have hK := h.1.2.2.2.2.2.2.2.2.2.2.2.1
  have hts : ∀ w ∈ lw_all, w.before (cAr E) (cS E) = true := fun w hw => hX.all hw (cAr E)
  have hKn := hK.1 ci _ hc
  have hrm : cR E = mm.2.2.2.2 := h.1.2.2.2.2.2.2.2.1
  refine W.newcK h.ex h.bs h.ow (hts _ w1) (hts _ w2) (hts _ w3) rfl hd (by rw [hrm]; exact hk) (by rw [hrm]; exact hn) hKn.2.1 rfl fun H' kC hkC e1 e2 e3 => ?_
  have hb := u_born (tyT ci) hts hin hKn hkC e1 hty
  have hR : Rel E.1 (upA ad p (gC μ p) H.size) (nw μ p 0) H' := by
    refine h.rel.mk1 (kd_ne0 hp hc) (fun _ => hfl.symm) e2 e3 ?_
    unfold Cel
    rw [hp]
    refine ⟨_, hc, blank (E.1.1.1 ci) kC, by rw [upA_eq, if_pos ⟨rfl, rfl⟩]; exact e1, rfl, rfl, ⟨rfl, rfl⟩, fun j hj => ?_⟩
    obtain ⟨cell, b1, -, -, b4⟩ := hb
    cases e1.symm.trans b1
    rw [b4 j hj]
    show some (defaultValue (tyT ci j)) = _
    rw [okT_def (hok j hj)]
    unfold fv
    have a1 : gP (nw μ p 0) p (gC μ p) j = none := by rw [gP_nw]; exact if_pos ⟨rfl, rfl⟩
    have a2 : gI (nw μ p 0) p (gC μ p) j = 0 := by rw [gI_nw]; exact if_pos ⟨rfl, rfl⟩
    rw [a1, a2]
    rfl
  have := kk (upA ad p (gC μ p) H.size) H' locs la (h.mk1 hR)
  rw [List.map_cons, map_upA h.lst] at this
  have e : cv (upA ad p (gC μ p) H.size) (vr p (gC μ p)) = .ref H.size := by
    show Value.ref (upA ad p (gC μ p) H.size p (gC μ p)) = _
    rw [upA_eq, if_pos ⟨rfl, rfl⟩]
  rw [e] at this
  exact this
theorem z_newA0 {at0 : ArrayType} {t N : Nat} {x : Int32} (p : Nat) (hd : decode cc pc = .ok (.newarray at0, 2)) (hp : kd p = .inr (t, 0)) (ht : t < 13) (hty : newarray.typeOf at0 = tyA.getD t .int) (hdv : defaultValue (tyA.getD t .int) = .int 0) (hRA : ∀ U cA, va_RA U cA (tyA.getD t .int) → U.vm.findClass ("[" ++ (tyA.getD t .int).toString) = some cA) (hw : Cond.arrayClass (tyA.getD t .int) ∈ lw_all) (hx : x = nI N) (hN : N ≤ 65536) (hby : componentBytes (tyA.getD t .int) ≤ 8) (hm : ¬ (p = 27 ∨ p = 46) → N = fl p) (hk : k + 1 ≤ mm.2.2.2.2.cells) (hn : n + N ≤ mm.2.2.2.2.slots) (kk : Z own cc mm E (k + 1) (n + N) (nw μ p N) (pc + 2) ls (vr p (gC μ p) :: st)) : Z own cc mm E k n μ pc ls (vi x :: st) := by
  intro ad H locs la h
  have hX : XW (cS E) := h.1.2.2.2.2.2.2.2.2.2.2.1
  have hK := h.1.2.2.2.2.2.2.2.2.2.2.2.1
  have hrm : cR E = mm.2.2.2.2 := h.1.2.2.2.2.2.2.2.1
  have hcA := hRA _ _ (hK.2 t _ (tys_at ht)).2
  subst hx
  have hcl : (nI N).toNatClampNeg = N := nI_clamp (by omega)
  refine va_newaK h.ex h.bs (atype := at0) (by rw [hty]; exact hX.all hw _) (g := F0 (cM E) pc la (.int (nI N) :: st.map (cv ad))) rfl hd rfl (nI_pos (by omega)) hcl (by rw [hty]; exact Nat.le_trans (Nat.mul_le_mul hN hby) (by decide)) (by rw [hrm]; exact hk) (by rw [hrm]; exact hn) rfl fun H' cA e1 e2 e3 _ e5 => ?_
  rw [hty] at e5 e1
  have ec : cA = E.1.2.1 t := Option.some.inj (e5.symm.trans hcA)
  subst ec
  have h' : Hy own cc mm E μ ls st ad H locs la := h.stk h.lst.tl
  have hR : Rel E.1 (upA ad p (gC μ p) H.size) (nw μ p N) H' := by
    refine h.rel.mk1 (kd_ne0A hp) hm e2 e3 ?_
    unfold Cel
    rw [hp]
    show H'[upA ad p (gC μ p) H.size p (gC μ p)]? = _
    rw [upA_eq, if_pos ⟨rfl, rfl⟩, e1, gL_nw _ _ _ _ _ hm, if_pos ⟨rfl, rfl⟩]
    have : (fun j => Value.int (gI (nw μ p N) p (gC μ p) j)) = fun _ => defaultValue (tyA.getD t .int) := funext fun j => by rw [gI_nw, if_pos ⟨rfl, rfl⟩, hdv]
    rw [this]
  have := kk (upA ad p (gC μ p) H.size) H' locs la (h'.mk1 hR)
  rw [List.map_cons, map_upA h'.lst] at this
  have e : cv (upA ad p (gC μ p) H.size) (vr p (gC μ p)) = .ref H.size := by
    show Value.ref (upA ad p (gC μ p) H.size p (gC μ p)) = _
    rw [upA_eq, if_pos ⟨rfl, rfl⟩]
  rw [e] at this
  exact this
end ZH
