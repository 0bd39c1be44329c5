/-! rows of the plain instructions -/
section ZR
variable {own : String} {cc : ByteArray} {mm : MM} {E : Ex} {k n : Nat} {μ : Mem} {pc : Nat} {ls : List (Option AV)} {st : List AV} {ad : Ad} {H : Heap} {locs : List Loc} {la : Array Slot}
theorem Hy.ex (h : Hy own cc mm E μ ls st ad H locs la) : (cP E).tables.exec = Jvm.exec := h.1.1
theorem Hy.bs (h : Hy own cc mm E μ ls st ad H locs la) : (cC E).code = cc := h.1.2.1
theorem Hy.ow (h : Hy own cc mm E μ ls st ad H locs la) : (cS E).vm.findClass own = some (cM E).cls := h.1.2.2.1
theorem Hy.rel (h : Hy own cc mm E μ ls st ad H locs la) : Rel E.1 ad μ H := h.2.2.2.1
theorem Hy.lo (h : Hy own cc mm E μ ls st ad H locs la) : LvO μ ls := h.2.2.2.2.1
theorem Hy.lst (h : Hy own cc mm E μ ls st ad H locs la) : LvL μ st := h.2.2.2.2.2.1
theorem Hy.lc (h : Hy own cc mm E μ ls st ad H locs la) : Lc mm.1 ad ls la := h.2.2.2.2.2.2
theorem Hy.stk {st' : List AV} (h : Hy own cc mm E μ ls st ad H locs la) (hs : LvL μ st') : Hy own cc mm E μ ls st' ad H locs la := ⟨h.1, h.2.1, h.2.2.1, h.2.2.2.1, h.2.2.2.2.1, hs, h.2.2.2.2.2.2⟩
theorem Hy.at (h : Hy own cc mm E μ ls st ad H locs la) {i : Nat} {v : AV} (hi : ls[i]? = some (some v)) : la[i]? = some (Slot.val (cv ad v)) := (h.lc.2.2 i v hi).1
def LL (ad : Ad) (ls : List (Option AV)) : List (Nat × Value) := (List.range ls.length).filterMap (fun i => ((ls[i]?).getD none).map (fun v => (i, cv ad v)))
theorem LL_mem {q : Nat × Value} : q ∈ LL ad ls ↔ ∃ v, ls[q.1]? = some (some v) ∧ q.2 = cv ad v := by
  unfold LL
  rw [List.mem_filterMap]
  constructor
  · rintro ⟨i, hi, h⟩
    have hlt := List.mem_range.mp hi
    rw [List.getElem?_eq_getElem hlt, Option.getD_some] at h
    cases e : ls[i] with
    | none => rw [e] at h; cases h
    | some v =>
      rw [e] at h
      cases h
      exact ⟨v, by rw [List.getElem?_eq_getElem hlt, e], rfl⟩
  · rintro ⟨v, h1, h2⟩
    have hlt : q.1 < ls.length := (List.getElem?_eq_some_iff.mp h1).1
    exact ⟨q.1, List.mem_range.mpr hlt, by rw [h1, Option.getD_some, Option.map_some, ← h2]⟩
theorem Lc.has {nL : Nat} (h : Lc nL ad ls la) : lv_has la nL (LL ad ls) := ⟨h.1.1, h.1.2.1, fun q hq => by
  obtain ⟨v, h1, h2⟩ := LL_mem.mp hq
  rw [h2]
  exact (h.2.2 q.1 v h1).1⟩
theorem Lc.stored {nL i : Nat} {v : AV} {la' : Array Slot} (h : Lc nL ad ls la) (hc : (cv ad v).category = 1) (h2 : lv_has la' nL ((i, cv ad v) :: (LL ad ls).filter (fun q => !(q.1 == i) && !(q.1 + 1 == i && q.2.category == 2)))) : Lc nL ad (ls.set i (some v)) la' := by
  refine ⟨⟨h2.1, h2.2.1, fun q hq => by cases hq⟩, by rw [List.length_set]; exact h.2.1, fun j u hj => ?_⟩
  by_cases e : j = i
  · subst e
    have hlt : j < ls.length := by
      have := (List.getElem?_eq_some_iff.mp hj).1
      rwa [List.length_set] at this
    rw [List.getElem?_set_self hlt] at hj
    cases hj
    exact ⟨h2.2.2 _ List.mem_cons_self, hc⟩
  · rw [List.getElem?_set_ne (fun q => e q.symm)] at hj
    have h3 := h.2.2 j u hj
    refine ⟨h2.2.2 (j, cv ad u) (List.mem_cons_of_mem _ (List.mem_filter.mpr ⟨LL_mem.mpr ⟨u, hj, rfl⟩, ?_⟩)), h3.2⟩
    simp [e, h3.2]
theorem cat_vi (x : Int32) : (cv ad (vi x)).category = 1 := rfl
theorem cat_vo (r : Option (Nat × Nat)) : (cv ad (vo r)).category = 1 := by cases r <;> rfl
theorem Hy.sto {st' : List AV} {la' : Array Slot} {i : Nat} {v : AV} (h : Hy own cc mm E μ ls st ad H locs la) (hs : LvL μ st') (hv : LvV μ v) (hc : (cv ad v).category = 1) (h2 : lv_has la' mm.1 ((i, cv ad v) :: (LL ad ls).filter (fun q => !(q.1 == i) && !(q.1 + 1 == i && q.2.category == 2)))) : Hy own cc mm E μ (ls.set i (some v)) st' ad H locs la' :=
  ⟨h.1, h.2.1, h.2.2.1, h.2.2.2.1, h.lo.set hv i, hs, h.lc.stored hc h2⟩
theorem z_iconst {c : Int} {v : Int32} (hd : decode cc pc = .ok (.iconst c, 1)) (hv : Int32.ofInt c = v) (kk : Z own cc mm E k n μ (pc + 1) ls (vi v :: st)) : Z own cc mm E k n μ pc ls st :=
  fun ad H locs la h => lv_iconst h.ex h.bs hd hv (kk ad H locs la (h.stk h.lst.i))
theorem z_bipush {c : Int} {v : Int32} (hd : decode cc pc = .ok (.bipush c, 2)) (hv : (Int8.ofInt c).toInt32 = v) (kk : Z own cc mm E k n μ (pc + 2) ls (vi v :: st)) : Z own cc mm E k n μ pc ls st :=
  fun ad H locs la h => lv_bipush h.ex h.bs hd hv (kk ad H locs la (h.stk h.lst.i))
theorem z_sipush {c : Int} {v : Int32} (hd : decode cc pc = .ok (.sipush c, 3)) (hv : (Int16.ofInt c).toInt32 = v) (kk : Z own cc mm E k n μ (pc + 3) ls (vi v :: st)) : Z own cc mm E k n μ pc ls st :=
  fun ad H locs la h => lv_sipush h.ex h.bs hd hv (kk ad H locs la (h.stk h.lst.i))
theorem z_null (hd : decode cc pc = .ok (.aconst_null, 1)) (kk : Z own cc mm E k n μ (pc + 1) ls (vo none :: st)) : Z own cc mm E k n μ pc ls st :=
  fun ad H locs la h => lv_null h.ex h.bs hd (kk ad H locs la (h.stk h.lst.n))
theorem z_iloadN (i : Nat) {x : Int32} {c : Fin 4} (hd : decode cc pc = .ok (.iload_n c, 1)) (hc : (c : Nat) = i) (hi : ls[i]? = some (some (vi x))) (kk : Z own cc mm E k n μ (pc + 1) ls (vi x :: st)) : Z own cc mm E k n μ pc ls st :=
  fun ad H locs la h => lv_iload_n h.ex h.bs hd hc (h.at hi) (kk ad H locs la (h.stk h.lst.i))
theorem z_iloadW (i : Nat) {x : Int32} (hd : decode cc pc = .ok (.iload i, 2)) (hi : ls[i]? = some (some (vi x))) (kk : Z own cc mm E k n μ (pc + 2) ls (vi x :: st)) : Z own cc mm E k n μ pc ls st :=
  fun ad H locs la h => lv_iload h.ex h.bs hd (h.at hi) (kk ad H locs la (h.stk h.lst.i))
theorem z_aloadN (i : Nat) {r : Option (Nat × Nat)} {c : Fin 4} (hd : decode cc pc = .ok (.aload_n c, 1)) (hc : (c : Nat) = i) (hi : ls[i]? = some (some (vo r))) (kk : Z own cc mm E k n μ (pc + 1) ls (vo r :: st)) : Z own cc mm E k n μ pc ls st := by
  intro ad H locs la h
  have hk := kk ad H locs la (h.stk (LvL.cons (h.lo.at hi) h.lst))
  have ha := h.at hi
  cases r with
  | none => exact lv_aload_nN h.ex h.bs hd hc ha hk
  | some q => exact lv_aload_n h.ex h.bs hd hc ha hk
theorem z_aloadW (i : Nat) {r : Option (Nat × Nat)} (hd : decode cc pc = .ok (.aload i, 2)) (hi : ls[i]? = some (some (vo r))) (kk : Z own cc mm E k n μ (pc + 2) ls (vo r :: st)) : Z own cc mm E k n μ pc ls st := by
  intro ad H locs la h
  have hk := kk ad H locs la (h.stk (LvL.cons (h.lo.at hi) h.lst))
  have ha := h.at hi
  cases r with
  | none => exact lv_aloadN h.ex h.bs hd ha hk
  | some q => exact lv_aload h.ex h.bs hd ha hk
theorem z_istoreN (i : Nat) {x : Int32} {c : Fin 4} (hd : decode cc pc = .ok (.istore_n c, 1)) (hc : (c : Nat) = i) (hi : i < ls.length) (kk : Z own cc mm E k n μ (pc + 1) (ls.set i (some (vi x))) st) : Z own cc mm E k n μ pc ls (vi x :: st) :=
  fun ad H locs la h => lv_istore_n h.ex h.bs hd hc h.lc.has (Nat.lt_of_lt_of_le hi h.lc.2.1) rfl (fun la' h2 => kk ad H locs la' (h.sto (v := vi x) h.lst.tl trivial rfl h2))
theorem z_istoreW (i : Nat) {x : Int32} (hd : decode cc pc = .ok (.istore i, 2)) (hi : i < ls.length) (kk : Z own cc mm E k n μ (pc + 2) (ls.set i (some (vi x))) st) : Z own cc mm E k n μ pc ls (vi x :: st) :=
  fun ad H locs la h => lv_istore h.ex h.bs hd h.lc.has (Nat.lt_of_lt_of_le hi h.lc.2.1) rfl (fun la' h2 => kk ad H locs la' (h.sto (v := vi x) h.lst.tl trivial rfl h2))
theorem z_astoreN (i : Nat) {r : Option (Nat × Nat)} {c : Fin 4} (hd : decode cc pc = .ok (.astore_n c, 1)) (hc : (c : Nat) = i) (hi : i < ls.length) (kk : Z own cc mm E k n μ (pc + 1) (ls.set i (some (vo r))) st) : Z own cc mm E k n μ pc ls (vo r :: st) := by
  intro ad H locs la h
  cases r with
  | none => exact lv_astore_nN h.ex h.bs hd hc h.lc.has (Nat.lt_of_lt_of_le hi h.lc.2.1) rfl (fun la' h2 => kk ad H locs la' (h.sto (v := vo none) h.lst.tl trivial rfl h2))
  | some q => exact lv_astore_n h.ex h.bs hd hc h.lc.has (Nat.lt_of_lt_of_le hi h.lc.2.1) rfl (fun la' h2 => kk ad H locs la' (h.sto (v := vo (some q)) h.lst.tl h.lst.hd rfl h2))
theorem z_astoreW (i : Nat) {r : Option (Nat × Nat)} (hd : decode cc pc = .ok (.astore i, 2)) (hi : i < ls.length) (kk : Z own cc mm E k n μ (pc + 2) (ls.set i (some (vo r))) st) : Z own cc mm E k n μ pc ls (vo r :: st) := by
  intro ad H locs la h
  cases r with
  | none => exact lv_astoreN h.ex h.bs hd h.lc.has (Nat.lt_of_lt_of_le hi h.lc.2.1) rfl (fun la' h2 => kk ad H locs la' (h.sto (v := vo none) h.lst.tl trivial rfl h2))
  | some q => exact lv_astore h.ex h.bs hd h.lc.has (Nat.lt_of_lt_of_le hi h.lc.2.1) rfl (fun la' h2 => kk ad H locs la' (h.sto (v := vo (some q)) h.lst.tl h.lst.hd rfl h2))
theorem z_iincW (i : Nat) {x v : Int32} {c : Int} (hd : decode cc pc = .ok (.iinc i c, 3)) (hi : ls[i]? = some (some (vi x))) (hv : x + Int32.ofInt c = v) (kk : Z own cc mm E k n μ (pc + 3) (ls.set i (some (vi v))) st) : Z own cc mm E k n μ pc ls st := by
  intro ad H locs la h
  have hm : (i, Value.int x) ∈ LL ad ls := LL_mem.mpr ⟨vi x, hi, rfl⟩
  obtain ⟨j, hj⟩ := List.getElem?_of_mem hm
  have hlt : i < ls.length := (List.getElem?_eq_some_iff.mp hi).1
  exact lv_iinc h.ex h.bs hd h.lc.has hj hv (Nat.lt_of_lt_of_le hlt h.lc.2.1) rfl (fun la' h2 => kk ad H locs la' (h.sto (v := vi v) h.lst trivial rfl h2))
theorem z_iload0 {t : List (Option AV)} {x : Int32} (hd : decode cc pc = .ok (.iload_n 0, 1)) (kk : Z own cc mm E k n μ (pc + 1) (some (vi x) :: t) (vi x :: st)) : Z own cc mm E k n μ pc (some (vi x) :: t) st := z_iloadN 0 hd rfl rfl kk
theorem z_aload0 {t : List (Option AV)} {r : Option (Nat × Nat)} (hd : decode cc pc = .ok (.aload_n 0, 1)) (kk : Z own cc mm E k n μ (pc + 1) (some (vo r) :: t) (vo r :: st)) : Z own cc mm E k n μ pc (some (vo r) :: t) st := z_aloadN 0 hd rfl rfl kk
theorem z_istore0 {t : List (Option AV)} {o : Option AV} {x : Int32} (hd : decode cc pc = .ok (.istore_n 0, 1)) (kk : Z own cc mm E k n μ (pc + 1) (some (vi x) :: t) st) : Z own cc mm E k n μ pc (o :: t) (vi x :: st) := z_istoreN 0 hd rfl (Nat.le_of_ble_eq_true rfl) kk
theorem z_astore0 {t : List (Option AV)} {o : Option AV} {r : Option (Nat × Nat)} (hd : decode cc pc = .ok (.astore_n 0, 1)) (kk : Z own cc mm E k n μ (pc + 1) (some (vo r) :: t) st) : Z own cc mm E k n μ pc (o :: t) (vo r :: st) := z_astoreN 0 hd rfl (Nat.le_of_ble_eq_true rfl) kk
theorem z_iinc0 {t : List (Option AV)} {x v : Int32} {c : Int} (hd : decode cc pc = .ok (.iinc 0 c, 3)) (hv : x + Int32.ofInt c = v) (kk : Z own cc mm E k n μ (pc + 3) (some (vi v) :: t) st) : Z own cc mm E k n μ pc (some (vi x) :: t) st := z_iincW 0 hd rfl hv kk
theorem z_iload1 {a0 : Option AV} {t : List (Option AV)} {x : Int32} (hd : decode cc pc = .ok (.iload_n 1, 1)) (kk : Z own cc mm E k n μ (pc + 1) (a0 :: some (vi x) :: t) (vi x :: st)) : Z own cc mm E k n μ pc (a0 :: some (vi x) :: t) st := z_iloadN 1 hd rfl rfl kk
theorem z_aload1 {a0 : Option AV} {t : List (Option AV)} {r : Option (Nat × Nat)} (hd : decode cc pc = .ok (.aload_n 1, 1)) (kk : Z own cc mm E k n μ (pc + 1) (a0 :: some (vo r) :: t) (vo r :: st)) : Z own cc mm E k n μ pc (a0 :: some (vo r) :: t) st := z_aloadN 1 hd rfl rfl kk
theorem z_istore1 {a0 : Option AV} {t : List (Option AV)} {o : Option AV} {x : Int32} (hd : decode cc pc = .ok (.istore_n 1, 1)) (kk : Z own cc mm E k n μ (pc + 1) (a0 :: some (vi x) :: t) st) : Z own cc mm E k n μ pc (a0 :: o :: t) (vi x :: st) := z_istoreN 1 hd rfl (Nat.le_of_ble_eq_true rfl) kk
theorem z_astore1 {a0 : Option AV} {t : List (Option AV)} {o : Option AV} {r : Option (Nat × Nat)} (hd : decode cc pc = .ok (.astore_n 1, 1)) (kk : Z own cc mm E k n μ (pc + 1) (a0 :: some (vo r) :: t) st) : Z own cc mm E k n μ pc (a0 :: o :: t) (vo r :: st) := z_astoreN 1 hd rfl (Nat.le_of_ble_eq_true rfl) kk
theorem z_iinc1 {a0 : Option AV} {t : List (Option AV)} {x v : Int32} {c : Int} (hd : decode cc pc = .ok (.iinc 1 c, 3)) (hv : x + Int32.ofInt c = v) (kk : Z own cc mm E k n μ (pc + 3) (a0 :: some (vi v) :: t) st) : Z own cc mm E k n μ pc (a0 :: some (vi x) :: t) st := z_iincW 1 hd rfl hv kk
theorem z_iload2 {a0 a1 : Option AV} {t : List (Option AV)} {x : Int32} (hd : decode cc pc = .ok (.iload_n 2, 1)) (kk : Z own cc mm E k n μ (pc + 1) (a0 :: a1 :: some (vi x) :: t) (vi x :: st)) : Z own cc mm E k n μ pc (a0 :: a1 :: some (vi x) :: t) st := z_iloadN 2 hd rfl rfl kk
theorem z_aload2 {a0 a1 : Option AV} {t : List (Option AV)} {r : Option (Nat × Nat)} (hd : decode cc pc = .ok (.aload_n 2, 1)) (kk : Z own cc mm E k n μ (pc + 1) (a0 :: a1 :: some (vo r) :: t) (vo r :: st)) : Z own cc mm E k n μ pc (a0 :: a1 :: some (vo r) :: t) st := z_aloadN 2 hd rfl rfl kk
theorem z_istore2 {a0 a1 : Option AV} {t : List (Option AV)} {o : Option AV} {x : Int32} (hd : decode cc pc = .ok (.istore_n 2, 1)) (kk : Z own cc mm E k n μ (pc + 1) (a0 :: a1 :: some (vi x) :: t) st) : Z own cc mm E k n μ pc (a0 :: a1 :: o :: t) (vi x :: st) := z_istoreN 2 hd rfl (Nat.le_of_ble_eq_true rfl) kk
theorem z_astore2 {a0 a1 : Option AV} {t : List (Option AV)} {o : Option AV} {r : Option (Nat × Nat)} (hd : decode cc pc = .ok (.astore_n 2, 1)) (kk : Z own cc mm E k n μ (pc + 1) (a0 :: a1 :: some (vo r) :: t) st) : Z own cc mm E k n μ pc (a0 :: a1 :: o :: t) (vo r :: st) := z_astoreN 2 hd rfl (Nat.le_of_ble_eq_true rfl) kk
theorem z_iinc2 {a0 a1 : Option AV} {t : List (Option AV)} {x v : Int32} {c : Int} (hd : decode cc pc = .ok (.iinc 2 c, 3)) (hv : x + Int32.ofInt c = v) (kk : Z own cc mm E k n μ (pc + 3) (a0 :: a1 :: some (vi v) :: t) st) : Z own cc mm E k n μ pc (a0 :: a1 :: some (vi x) :: t) st := z_iincW 2 hd rfl hv kk
theorem z_iload3 {a0 a1 a2 : Option AV} {t : List (Option AV)} {x : Int32} (hd : decode cc pc = .ok (.iload_n 3, 1)) (kk : Z own cc mm E k n μ (pc + 1) (a0 :: a1 :: a2 :: some (vi x) :: t) (vi x :: st)) : Z own cc mm E k n μ pc (a0 :: a1 :: a2 :: some (vi x) :: t) st := z_iloadN 3 hd rfl rfl kk
theorem z_aload3 {a0 a1 a2 : Option AV} {t : List (Option AV)} {r : Option (Nat × Nat)} (hd : decode cc pc = .ok (.aload_n 3, 1)) (kk : Z own cc mm E k n μ (pc + 1) (a0 :: a1 :: a2 :: some (vo r) :: t) (vo r :: st)) : Z own cc mm E k n μ pc (a0 :: a1 :: a2 :: some (vo r) :: t) st := z_aloadN 3 hd rfl rfl kk
theorem z_istore3 {a0 a1 a2 : Option AV} {t : List (Option AV)} {o : Option AV} {x : Int32} (hd : decode cc pc = .ok (.istore_n 3, 1)) (kk : Z own cc mm E k n μ (pc + 1) (a0 :: a1 :: a2 :: some (vi x) :: t) st) : Z own cc mm E k n μ pc (a0 :: a1 :: a2 :: o :: t) (vi x :: st) := z_istoreN 3 hd rfl (Nat.le_of_ble_eq_true rfl) kk
theorem z_astore3 {a0 a1 a2 : Option AV} {t : List (Option AV)} {o : Option AV} {r : Option (Nat × Nat)} (hd : decode cc pc = .ok (.astore_n 3, 1)) (kk : Z own cc mm E k n μ (pc + 1) (a0 :: a1 :: a2 :: some (vo r) :: t) st) : Z own cc mm E k n μ pc (a0 :: a1 :: a2 :: o :: t) (vo r :: st) := z_astoreN 3 hd rfl (Nat.le_of_ble_eq_true rfl) kk
theorem z_iinc3 {a0 a1 a2 : Option AV} {t : List (Option AV)} {x v : Int32} {c : Int} (hd : decode cc pc = .ok (.iinc 3 c, 3)) (hv : x + Int32.ofInt c = v) (kk : Z own cc mm E k n μ (pc + 3) (a0 :: a1 :: a2 :: some (vi v) :: t) st) : Z own cc mm E k n μ pc (a0 :: a1 :: a2 :: some (vi x) :: t) st := z_iincW 3 hd rfl hv kk
theorem z_iload4 {a0 a1 a2 a3 : Option AV} {t : List (Option AV)} {x : Int32} (hd : decode cc pc = .ok (.iload 4, 2)) (kk : Z own cc mm E k n μ (pc + 2) (a0 :: a1 :: a2 :: a3 :: some (vi x) :: t) (vi x :: st)) : Z own cc mm E k n μ pc (a0 :: a1 :: a2 :: a3 :: some (vi x) :: t) st := z_iloadW 4 hd rfl kk
theorem z_aload4 {a0 a1 a2 a3 : Option AV} {t : List (Option AV)} {r : Option (Nat × Nat)} (hd : decode cc pc = .ok (.aload 4, 2)) (kk : Z own cc mm E k n μ (pc + 2) (a0 :: a1 :: a2 :: a3 :: some (vo r) :: t) (vo r :: st)) : Z own cc mm E k n μ pc (a0 :: a1 :: a2 :: a3 :: some (vo r) :: t) st := z_aloadW 4 hd rfl kk
theorem z_istore4 {a0 a1 a2 a3 : Option AV} {t : List (Option AV)} {o : Option AV} {x : Int32} (hd : decode cc pc = .ok (.istore 4, 2)) (kk : Z own cc mm E k n μ (pc + 2) (a0 :: a1 :: a2 :: a3 :: some (vi x) :: t) st) : Z own cc mm E k n μ pc (a0 :: a1 :: a2 :: a3 :: o :: t) (vi x :: st) := z_istoreW 4 hd (Nat.le_of_ble_eq_true rfl) kk
theorem z_astore4 {a0 a1 a2 a3 : Option AV} {t : List (Option AV)} {o : Option AV} {r : Option (Nat × Nat)} (hd : decode cc pc = .ok (.astore 4, 2)) (kk : Z own cc mm E k n μ (pc + 2) (a0 :: a1 :: a2 :: a3 :: some (vo r) :: t) st) : Z own cc mm E k n μ pc (a0 :: a1 :: a2 :: a3 :: o :: t) (vo r :: st) := z_astoreW 4 hd (Nat.le_of_ble_eq_true rfl) kk
theorem z_iinc4 {a0 a1 a2 a3 : Option AV} {t : List (Option AV)} {x v : Int32} {c : Int} (hd : decode cc pc = .ok (.iinc 4 c, 3)) (hv : x + Int32.ofInt c = v) (kk : Z own cc mm E k n μ (pc + 3) (a0 :: a1 :: a2 :: a3 :: some (vi v) :: t) st) : Z own cc mm E k n μ pc (a0 :: a1 :: a2 :: a3 :: some (vi x) :: t) st := z_iincW 4 hd rfl hv kk
theorem z_iload5 {a0 a1 a2 a3 a4 : Option AV} {t : List (Option AV)} {x : Int32} (hd : decode cc pc = .ok (.iload 5, 2)) (kk : Z own cc mm E k n μ (pc + 2) (a0 :: a1 :: a2 :: a3 :: a4 :: some (vi x) :: t) (vi x :: st)) : Z own cc mm E k n μ pc (a0 :: a1 :: a2 :: a3 :: a4 :: some (vi x) :: t) st := z_iloadW 5 hd rfl kk
theorem z_aload5 {a0 a1 a2 a3 a4 : Option AV} {t : List (Option AV)} {r : Option (Nat × Nat)} (hd : decode cc pc = .ok (.aload 5, 2)) (kk : Z own cc mm E k n μ (pc + 2) (a0 :: a1 :: a2 :: a3 :: a4 :: some (vo r) :: t) (vo r :: st)) : Z own cc mm E k n μ pc (a0 :: a1 :: a2 :: a3 :: a4 :: some (vo r) :: t) st := z_aloadW 5 hd rfl kk
theorem z_istore5 {a0 a1 a2 a3 a4 : Option AV} {t : List (Option AV)} {o : Option AV} {x : Int32} (hd : decode cc pc = .ok (.istore 5, 2)) (kk : Z own cc mm E k n μ (pc + 2) (a0 :: a1 :: a2 :: a3 :: a4 :: some (vi x) :: t) st) : Z own cc mm E k n μ pc (a0 :: a1 :: a2 :: a3 :: a4 :: o :: t) (vi x :: st) := z_istoreW 5 hd (Nat.le_of_ble_eq_true rfl) kk
theorem z_astore5 {a0 a1 a2 a3 a4 : Option AV} {t : List (Option AV)} {o : Option AV} {r : Option (Nat × Nat)} (hd : decode cc pc = .ok (.astore 5, 2)) (kk : Z own cc mm E k n μ (pc + 2) (a0 :: a1 :: a2 :: a3 :: a4 :: some (vo r) :: t) st) : Z own cc mm E k n μ pc (a0 :: a1 :: a2 :: a3 :: a4 :: o :: t) (vo r :: st) := z_astoreW 5 hd (Nat.le_of_ble_eq_true rfl) kk
theorem z_iinc5 {a0 a1 a2 a3 a4 : Option AV} {t : List (Option AV)} {x v : Int32} {c : Int} (hd : decode cc pc = .ok (.iinc 5 c, 3)) (hv : x + Int32.ofInt c = v) (kk : Z own cc mm E k n μ (pc + 3) (a0 :: a1 :: a2 :: a3 :: a4 :: some (vi v) :: t) st) : Z own cc mm E k n μ pc (a0 :: a1 :: a2 :: a3 :: a4 :: some (vi x) :: t) st := z_iincW 5 hd rfl hv kk
theorem z_iload6 {a0 a1 a2 a3 a4 a5 : Option AV} {t : List (Option AV)} {x : Int32} (hd : decode cc pc = .ok (.iload 6, 2)) (kk : Z own cc mm E k n μ (pc + 2) (a0 :: a1 :: a2 :: a3 :: a4 :: a5 :: some (vi x) :: t) (vi x :: st)) : Z own cc mm E k n μ pc (a0 :: a1 :: a2 :: a3 :: a4 :: a5 :: some (vi x) :: t) st := z_iloadW 6 hd rfl kk
theorem z_aload6 {a0 a1 a2 a3 a4 a5 : Option AV} {t : List (Option AV)} {r : Option (Nat × Nat)} (hd : decode cc pc = .ok (.aload 6, 2)) (kk : Z own cc mm E k n μ (pc + 2) (a0 :: a1 :: a2 :: a3 :: a4 :: a5 :: some (vo r) :: t) (vo r :: st)) : Z own cc mm E k n μ pc (a0 :: a1 :: a2 :: a3 :: a4 :: a5 :: some (vo r) :: t) st := z_aloadW 6 hd rfl kk
theorem z_istore6 {a0 a1 a2 a3 a4 a5 : Option AV} {t : List (Option AV)} {o : Option AV} {x : Int32} (hd : decode cc pc = .ok (.istore 6, 2)) (kk : Z own cc mm E k n μ (pc + 2) (a0 :: a1 :: a2 :: a3 :: a4 :: a5 :: some (vi x) :: t) st) : Z own cc mm E k n μ pc (a0 :: a1 :: a2 :: a3 :: a4 :: a5 :: o :: t) (vi x :: st) := z_istoreW 6 hd (Nat.le_of_ble_eq_true rfl) kk
theorem z_astore6 {a0 a1 a2 a3 a4 a5 : Option AV} {t : List (Option AV)} {o : Option AV} {r : Option (Nat × Nat)} (hd : decode cc pc = .ok (.astore 6, 2)) (kk : Z own cc mm E k n μ (pc + 2) (a0 :: a1 :: a2 :: a3 :: a4 :: a5 :: some (vo r) :: t) st) : Z own cc mm E k n μ pc (a0 :: a1 :: a2 :: a3 :: a4 :: a5 :: o :: t) (vo r :: st) := z_astoreW 6 hd (Nat.le_of_ble_eq_true rfl) kk
theorem z_iinc6 {a0 a1 a2 a3 a4 a5 : Option AV} {t : List (Option AV)} {x v : Int32} {c : Int} (hd : decode cc pc = .ok (.iinc 6 c, 3)) (hv : x + Int32.ofInt c = v) (kk : Z own cc mm E k n μ (pc + 3) (a0 :: a1 :: a2 :: a3 :: a4 :: a5 :: some (vi v) :: t) st) : Z own cc mm E k n μ pc (a0 :: a1 :: a2 :: a3 :: a4 :: a5 :: some (vi x) :: t) st := z_iincW 6 hd rfl hv kk
theorem z_iload7 {a0 a1 a2 a3 a4 a5 a6 : Option AV} {t : List (Option AV)} {x : Int32} (hd : decode cc pc = .ok (.iload 7, 2)) (kk : Z own cc mm E k n μ (pc + 2) (a0 :: a1 :: a2 :: a3 :: a4 :: a5 :: a6 :: some (vi x) :: t) (vi x :: st)) : Z own cc mm E k n μ pc (a0 :: a1 :: a2 :: a3 :: a4 :: a5 :: a6 :: some (vi x) :: t) st := z_iloadW 7 hd rfl kk
theorem z_aload7 {a0 a1 a2 a3 a4 a5 a6 : Option AV} {t : List (Option AV)} {r : Option (Nat × Nat)} (hd : decode cc pc = .ok (.aload 7, 2)) (kk : Z own cc mm E k n μ (pc + 2) (a0 :: a1 :: a2 :: a3 :: a4 :: a5 :: a6 :: some (vo r) :: t) (vo r :: st)) : Z own cc mm E k n μ pc (a0 :: a1 :: a2 :: a3 :: a4 :: a5 :: a6 :: some (vo r) :: t) st := z_aloadW 7 hd rfl kk
theorem z_istore7 {a0 a1 a2 a3 a4 a5 a6 : Option AV} {t : List (Option AV)} {o : Option AV} {x : Int32} (hd : decode cc pc = .ok (.istore 7, 2)) (kk : Z own cc mm E k n μ (pc + 2) (a0 :: a1 :: a2 :: a3 :: a4 :: a5 :: a6 :: some (vi x) :: t) st) : Z own cc mm E k n μ pc (a0 :: a1 :: a2 :: a3 :: a4 :: a5 :: a6 :: o :: t) (vi x :: st) := z_istoreW 7 hd (Nat.le_of_ble_eq_true rfl) kk
theorem z_astore7 {a0 a1 a2 a3 a4 a5 a6 : Option AV} {t : List (Option AV)} {o : Option AV} {r : Option (Nat × Nat)} (hd : decode cc pc = .ok (.astore 7, 2)) (kk : Z own cc mm E k n μ (pc + 2) (a0 :: a1 :: a2 :: a3 :: a4 :: a5 :: a6 :: some (vo r) :: t) st) : Z own cc mm E k n μ pc (a0 :: a1 :: a2 :: a3 :: a4 :: a5 :: a6 :: o :: t) (vo r :: st) := z_astoreW 7 hd (Nat.le_of_ble_eq_true rfl) kk
theorem z_iinc7 {a0 a1 a2 a3 a4 a5 a6 : Option AV} {t : List (Option AV)} {x v : Int32} {c : Int} (hd : decode cc pc = .ok (.iinc 7 c, 3)) (hv : x + Int32.ofInt c = v) (kk : Z own cc mm E k n μ (pc + 3) (a0 :: a1 :: a2 :: a3 :: a4 :: a5 :: a6 :: some (vi v) :: t) st) : Z own cc mm E k n μ pc (a0 :: a1 :: a2 :: a3 :: a4 :: a5 :: a6 :: some (vi x) :: t) st := z_iincW 7 hd rfl hv kk
theorem z_iload8 {a0 a1 a2 a3 a4 a5 a6 a7 : Option AV} {t : List (Option AV)} {x : Int32} (hd : decode cc pc = .ok (.iload 8, 2)) (kk : Z own cc mm E k n μ (pc + 2) (a0 :: a1 :: a2 :: a3 :: a4 :: a5 :: a6 :: a7 :: some (vi x) :: t) (vi x :: st)) : Z own cc mm E k n μ pc (a0 :: a1 :: a2 :: a3 :: a4 :: a5 :: a6 :: a7 :: some (vi x) :: t) st := z_iloadW 8 hd rfl kk
theorem z_aload8 {a0 a1 a2 a3 a4 a5 a6 a7 : Option AV} {t : List (Option AV)} {r : Option (Nat × Nat)} (hd : decode cc pc = .ok (.aload 8, 2)) (kk : Z own cc mm E k n μ (pc + 2) (a0 :: a1 :: a2 :: a3 :: a4 :: a5 :: a6 :: a7 :: some (vo r) :: t) (vo r :: st)) : Z own cc mm E k n μ pc (a0 :: a1 :: a2 :: a3 :: a4 :: a5 :: a6 :: a7 :: some (vo r) :: t) st := z_aloadW 8 hd rfl kk
theorem z_istore8 {a0 a1 a2 a3 a4 a5 a6 a7 : Option AV} {t : List (Option AV)} {o : Option AV} {x : Int32} (hd : decode cc pc = .ok (.istore 8, 2)) (kk : Z own cc mm E k n μ (pc + 2) (a0 :: a1 :: a2 :: a3 :: a4 :: a5 :: a6 :: a7 :: some (vi x) :: t) st) : Z own cc mm E k n μ pc (a0 :: a1 :: a2 :: a3 :: a4 :: a5 :: a6 :: a7 :: o :: t) (vi x :: st) := z_istoreW 8 hd (Nat.le_of_ble_eq_true rfl) kk
theorem z_astore8 {a0 a1 a2 a3 a4 a5 a6 a7 : Option AV} {t : List (Option AV)} {o : Option AV} {r : Option (Nat × Nat)} (hd : decode cc pc = .ok (.astore 8, 2)) (kk : Z own cc mm E k n μ (pc + 2) (a0 :: a1 :: a2 :: a3 :: a4 :: a5 :: a6 :: a7 :: some (vo r) :: t) st) : Z own cc mm E k n μ pc (a0 :: a1 :: a2 :: a3 :: a4 :: a5 :: a6 :: a7 :: o :: t) (vo r :: st) := z_astoreW 8 hd (Nat.le_of_ble_eq_true rfl) kk
theorem z_iinc8 {a0 a1 a2 a3 a4 a5 a6 a7 : Option AV} {t : List (Option AV)} {x v : Int32} {c : Int} (hd : decode cc pc = .ok (.iinc 8 c, 3)) (hv : x + Int32.ofInt c = v) (kk : Z own cc mm E k n μ (pc + 3) (a0 :: a1 :: a2 :: a3 :: a4 :: a5 :: a6 :: a7 :: some (vi v) :: t) st) : Z own cc mm E k n μ pc (a0 :: a1 :: a2 :: a3 :: a4 :: a5 :: a6 :: a7 :: some (vi x) :: t) st := z_iincW 8 hd rfl hv kk
theorem z_iload9 {a0 a1 a2 a3 a4 a5 a6 a7 a8 : Option AV} {t : List (Option AV)} {x : Int32} (hd : decode cc pc = .ok (.iload 9, 2)) (kk : Z own cc mm E k n μ (pc + 2) (a0 :: a1 :: a2 :: a3 :: a4 :: a5 :: a6 :: a7 :: a8 :: some (vi x) :: t) (vi x :: st)) : Z own cc mm E k n μ pc (a0 :: a1 :: a2 :: a3 :: a4 :: a5 :: a6 :: a7 :: a8 :: some (vi x) :: t) st := z_iloadW 9 hd rfl kk
theorem z_aload9 {a0 a1 a2 a3 a4 a5 a6 a7 a8 : Option AV} {t : List (Option AV)} {r : Option (Nat × Nat)} (hd : decode cc pc = .ok (.aload 9, 2)) (kk : Z own cc mm E k n μ (pc + 2) (a0 :: a1 :: a2 :: a3 :: a4 :: a5 :: a6 :: a7 :: a8 :: some (vo r) :: t) (vo r :: st)) : Z own cc mm E k n μ pc (a0 :: a1 :: a2 :: a3 :: a4 :: a5 :: a6 :: a7 :: a8 :: some (vo r) :: t) st := z_aloadW 9 hd rfl kk
theorem z_istore9 {a0 a1 a2 a3 a4 a5 a6 a7 a8 : Option AV} {t : List (Option AV)} {o : Option AV} {x : Int32} (hd : decode cc pc = .ok (.istore 9, 2)) (kk : Z own cc mm E k n μ (pc + 2) (a0 :: a1 :: a2 :: a3 :: a4 :: a5 :: a6 :: a7 :: a8 :: some (vi x) :: t) st) : Z own cc mm E k n μ pc (a0 :: a1 :: a2 :: a3 :: a4 :: a5 :: a6 :: a7 :: a8 :: o :: t) (vi x :: st) := z_istoreW 9 hd (Nat.le_of_ble_eq_true rfl) kk
theorem z_astore9 {a0 a1 a2 a3 a4 a5 a6 a7 a8 : Option AV} {t : List (Option AV)} {o : Option AV} {r : Option (Nat × Nat)} (hd : decode cc pc = .ok (.astore 9, 2)) (kk : Z own cc mm E k n μ (pc + 2) (a0 :: a1 :: a2 :: a3 :: a4 :: a5 :: a6 :: a7 :: a8 :: some (vo r) :: t) st) : Z own cc mm E k n μ pc (a0 :: a1 :: a2 :: a3 :: a4 :: a5 :: a6 :: a7 :: a8 :: o :: t) (vo r :: st) := z_astoreW 9 hd (Nat.le_of_ble_eq_true rfl) kk
theorem z_iinc9 {a0 a1 a2 a3 a4 a5 a6 a7 a8 : Option AV} {t : List (Option AV)} {x v : Int32} {c : Int} (hd : decode cc pc = .ok (.iinc 9 c, 3)) (hv : x + Int32.ofInt c = v) (kk : Z own cc mm E k n μ (pc + 3) (a0 :: a1 :: a2 :: a3 :: a4 :: a5 :: a6 :: a7 :: a8 :: some (vi v) :: t) st) : Z own cc mm E k n μ pc (a0 :: a1 :: a2 :: a3 :: a4 :: a5 :: a6 :: a7 :: a8 :: some (vi x) :: t) st := z_iincW 9 hd rfl hv kk
theorem z_iload10 {a0 a1 a2 a3 a4 a5 a6 a7 a8 a9 : Option AV} {t : List (Option AV)} {x : Int32} (hd : decode cc pc = .ok (.iload 10, 2)) (kk : Z own cc mm E k n μ (pc + 2) (a0 :: a1 :: a2 :: a3 :: a4 :: a5 :: a6 :: a7 :: a8 :: a9 :: some (vi x) :: t) (vi x :: st)) : Z own cc mm E k n μ pc (a0 :: a1 :: a2 :: a3 :: a4 :: a5 :: a6 :: a7 :: a8 :: a9 :: some (vi x) :: t) st := z_iloadW 10 hd rfl kk
theorem z_aload10 {a0 a1 a2 a3 a4 a5 a6 a7 a8 a9 : Option AV} {t : List (Option AV)} {r : Option (Nat × Nat)} (hd : decode cc pc = .ok (.aload 10, 2)) (kk : Z own cc mm E k n μ (pc + 2) (a0 :: a1 :: a2 :: a3 :: a4 :: a5 :: a6 :: a7 :: a8 :: a9 :: some (vo r) :: t) (vo r :: st)) : Z own cc mm E k n μ pc (a0 :: a1 :: a2 :: a3 :: a4 :: a5 :: a6 :: a7 :: a8 :: a9 :: some (vo r) :: t) st := z_aloadW 10 hd rfl kk
theorem z_istore10 {a0 a1 a2 a3 a4 a5 a6 a7 a8 a9 : Option AV} {t : List (Option AV)} {o : Option AV} {x : Int32} (hd : decode cc pc = .ok (.istore 10, 2)) (kk : Z own cc mm E k n μ (pc + 2) (a0 :: a1 :: a2 :: a3 :: a4 :: a5 :: a6 :: a7 :: a8 :: a9 :: some (vi x) :: t) st) : Z own cc mm E k n μ pc (a0 :: a1 :: a2 :: a3 :: a4 :: a5 :: a6 :: a7 :: a8 :: a9 :: o :: t) (vi x :: st) := z_istoreW 10 hd (Nat.le_of_ble_eq_true rfl) kk
theorem z_astore10 {a0 a1 a2 a3 a4 a5 a6 a7 a8 a9 : Option AV} {t : List (Option AV)} {o : Option AV} {r : Option (Nat × Nat)} (hd : decode cc pc = .ok (.astore 10, 2)) (kk : Z own cc mm E k n μ (pc + 2) (a0 :: a1 :: a2 :: a3 :: a4 :: a5 :: a6 :: a7 :: a8 :: a9 :: some (vo r) :: t) st) : Z own cc mm E k n μ pc (a0 :: a1 :: a2 :: a3 :: a4 :: a5 :: a6 :: a7 :: a8 :: a9 :: o :: t) (vo r :: st) := z_astoreW 10 hd (Nat.le_of_ble_eq_true rfl) kk
theorem z_iinc10 {a0 a1 a2 a3 a4 a5 a6 a7 a8 a9 : Option AV} {t : List (Option AV)} {x v : Int32} {c : Int} (hd : decode cc pc = .ok (.iinc 10 c, 3)) (hv : x + Int32.ofInt c = v) (kk : Z own cc mm E k n μ (pc + 3) (a0 :: a1 :: a2 :: a3 :: a4 :: a5 :: a6 :: a7 :: a8 :: a9 :: some (vi v) :: t) st) : Z own cc mm E k n μ pc (a0 :: a1 :: a2 :: a3 :: a4 :: a5 :: a6 :: a7 :: a8 :: a9 :: some (vi x) :: t) st := z_iincW 10 hd rfl hv kk
theorem z_iload11 {a0 a1 a2 a3 a4 a5 a6 a7 a8 a9 a10 : Option AV} {t : List (Option AV)} {x : Int32} (hd : decode cc pc = .ok (.iload 11, 2)) (kk : Z own cc mm E k n μ (pc + 2) (a0 :: a1 :: a2 :: a3 :: a4 :: a5 :: a6 :: a7 :: a8 :: a9 :: a10 :: some (vi x) :: t) (vi x :: st)) : Z own cc mm E k n μ pc (a0 :: a1 :: a2 :: a3 :: a4 :: a5 :: a6 :: a7 :: a8 :: a9 :: a10 :: some (vi x) :: t) st := z_iloadW 11 hd rfl kk
theorem z_aload11 {a0 a1 a2 a3 a4 a5 a6 a7 a8 a9 a10 : Option AV} {t : List (Option AV)} {r : Option (Nat × Nat)} (hd : decode cc pc = .ok (.aload 11, 2)) (kk : Z own cc mm E k n μ (pc + 2) (a0 :: a1 :: a2 :: a3 :: a4 :: a5 :: a6 :: a7 :: a8 :: a9 :: a10 :: some (vo r) :: t) (vo r :: st)) : Z own cc mm E k n μ pc (a0 :: a1 :: a2 :: a3 :: a4 :: a5 :: a6 :: a7 :: a8 :: a9 :: a10 :: some (vo r) :: t) st := z_aloadW 11 hd rfl kk
theorem z_istore11 {a0 a1 a2 a3 a4 a5 a6 a7 a8 a9 a10 : Option AV} {t : List (Option AV)} {o : Option AV} {x : Int32} (hd : decode cc pc = .ok (.istore 11, 2)) (kk : Z own cc mm E k n μ (pc + 2) (a0 :: a1 :: a2 :: a3 :: a4 :: a5 :: a6 :: a7 :: a8 :: a9 :: a10 :: some (vi x) :: t) st) : Z own cc mm E k n μ pc (a0 :: a1 :: a2 :: a3 :: a4 :: a5 :: a6 :: a7 :: a8 :: a9 :: a10 :: o :: t) (vi x :: st) := z_istoreW 11 hd (Nat.le_of_ble_eq_true rfl) kk
theorem z_astore11 {a0 a1 a2 a3 a4 a5 a6 a7 a8 a9 a10 : Option AV} {t : List (Option AV)} {o : Option AV} {r : Option (Nat × Nat)} (hd : decode cc pc = .ok (.astore 11, 2)) (kk : Z own cc mm E k n μ (pc + 2) (a0 :: a1 :: a2 :: a3 :: a4 :: a5 :: a6 :: a7 :: a8 :: a9 :: a10 :: some (vo r) :: t) st) : Z own cc mm E k n μ pc (a0 :: a1 :: a2 :: a3 :: a4 :: a5 :: a6 :: a7 :: a8 :: a9 :: a10 :: o :: t) (vo r :: st) := z_astoreW 11 hd (Nat.le_of_ble_eq_true rfl) kk
theorem z_iinc11 {a0 a1 a2 a3 a4 a5 a6 a7 a8 a9 a10 : Option AV} {t : List (Option AV)} {x v : Int32} {c : Int} (hd : decode cc pc = .ok (.iinc 11 c, 3)) (hv : x + Int32.ofInt c = v) (kk : Z own cc mm E k n μ (pc + 3) (a0 :: a1 :: a2 :: a3 :: a4 :: a5 :: a6 :: a7 :: a8 :: a9 :: a10 :: some (vi v) :: t) st) : Z own cc mm E k n μ pc (a0 :: a1 :: a2 :: a3 :: a4 :: a5 :: a6 :: a7 :: a8 :: a9 :: a10 :: some (vi x) :: t) st := z_iincW 11 hd rfl hv kk
theorem z_iload12 {a0 a1 a2 a3 a4 a5 a6 a7 a8 a9 a10 a11 : Option AV} {t : List (Option AV)} {x : Int32} (hd : decode cc pc = .ok (.iload 12, 2)) (kk : Z own cc mm E k n μ (pc + 2) (a0 :: a1 :: a2 :: a3 :: a4 :: a5 :: a6 :: a7 :: a8 :: a9 :: a10 :: a11 :: some (vi x) :: t) (vi x :: st)) : Z own cc mm E k n μ pc (a0 :: a1 :: a2 :: a3 :: a4 :: a5 :: a6 :: a7 :: a8 :: a9 :: a10 :: a11 :: some (vi x) :: t) st := z_iloadW 12 hd rfl kk
theorem z_aload12 {a0 a1 a2 a3 a4 a5 a6 a7 a8 a9 a10 a11 : Option AV} {t : List (Option AV)} {r : Option (Nat × Nat)} (hd : decode cc pc = .ok (.aload 12, 2)) (kk : Z own cc mm E k n μ (pc + 2) (a0 :: a1 :: a2 :: a3 :: a4 :: a5 :: a6 :: a7 :: a8 :: a9 :: a10 :: a11 :: some (vo r) :: t) (vo r :: st)) : Z own cc mm E k n μ pc (a0 :: a1 :: a2 :: a3 :: a4 :: a5 :: a6 :: a7 :: a8 :: a9 :: a10 :: a11 :: some (vo r) :: t) st := z_aloadW 12 hd rfl kk
theorem z_istore12 {a0 a1 a2 a3 a4 a5 a6 a7 a8 a9 a10 a11 : Option AV} {t : List (Option AV)} {o : Option AV} {x : Int32} (hd : decode cc pc = .ok (.istore 12, 2)) (kk : Z own cc mm E k n μ (pc + 2) (a0 :: a1 :: a2 :: a3 :: a4 :: a5 :: a6 :: a7 :: a8 :: a9 :: a10 :: a11 :: some (vi x) :: t) st) : Z own cc mm E k n μ pc (a0 :: a1 :: a2 :: a3 :: a4 :: a5 :: a6 :: a7 :: a8 :: a9 :: a10 :: a11 :: o :: t) (vi x :: st) := z_istoreW 12 hd (Nat.le_of_ble_eq_true rfl) kk
theorem z_astore12 {a0 a1 a2 a3 a4 a5 a6 a7 a8 a9 a10 a11 : Option AV} {t : List (Option AV)} {o : Option AV} {r : Option (Nat × Nat)} (hd : decode cc pc = .ok (.astore 12, 2)) (kk : Z own cc mm E k n μ (pc + 2) (a0 :: a1 :: a2 :: a3 :: a4 :: a5 :: a6 :: a7 :: a8 :: a9 :: a10 :: a11 :: some (vo r) :: t) st) : Z own cc mm E k n μ pc (a0 :: a1 :: a2 :: a3 :: a4 :: a5 :: a6 :: a7 :: a8 :: a9 :: a10 :: a11 :: o :: t) (vo r :: st) := z_astoreW 12 hd (Nat.le_of_ble_eq_true rfl) kk
theorem z_iinc12 {a0 a1 a2 a3 a4 a5 a6 a7 a8 a9 a10 a11 : Option AV} {t : List (Option AV)} {x v : Int32} {c : Int} (hd : decode cc pc = .ok (.iinc 12 c, 3)) (hv : x + Int32.ofInt c = v) (kk : Z own cc mm E k n μ (pc + 3) (a0 :: a1 :: a2 :: a3 :: a4 :: a5 :: a6 :: a7 :: a8 :: a9 :: a10 :: a11 :: some (vi v) :: t) st) : Z own cc mm E k n μ pc (a0 :: a1 :: a2 :: a3 :: a4 :: a5 :: a6 :: a7 :: a8 :: a9 :: a10 :: a11 :: some (vi x) :: t) st := z_iincW 12 hd rfl hv kk
theorem z_iload13 {a0 a1 a2 a3 a4 a5 a6 a7 a8 a9 a10 a11 a12 : Option AV} {t : List (Option AV)} {x : Int32} (hd : decode cc pc = .ok (.iload 13, 2)) (kk : Z own cc mm E k n μ (pc + 2) (a0 :: a1 :: a2 :: a3 :: a4 :: a5 :: a6 :: a7 :: a8 :: a9 :: a10 :: a11 :: a12 :: some (vi x) :: t) (vi x :: st)) : Z own cc mm E k n μ pc (a0 :: a1 :: a2 :: a3 :: a4 :: a5 :: a6 :: a7 :: a8 :: a9 :: a10 :: a11 :: a12 :: some (vi x) :: t) st := z_iloadW 13 hd rfl kk
theorem z_aload13 {a0 a1 a2 a3 a4 a5 a6 a7 a8 a9 a10 a11 a12 : Option AV} {t : List (Option AV)} {r : Option (Nat × Nat)} (hd : decode cc pc = .ok (.aload 13, 2)) (kk : Z own cc mm E k n μ (pc + 2) (a0 :: a1 :: a2 :: a3 :: a4 :: a5 :: a6 :: a7 :: a8 :: a9 :: a10 :: a11 :: a12 :: some (vo r) :: t) (vo r :: st)) : Z own cc mm E k n μ pc (a0 :: a1 :: a2 :: a3 :: a4 :: a5 :: a6 :: a7 :: a8 :: a9 :: a10 :: a11 :: a12 :: some (vo r) :: t) st := z_aloadW 13 hd rfl kk
theorem z_istore13 {a0 a1 a2 a3 a4 a5 a6 a7 a8 a9 a10 a11 a12 : Option AV} {t : List (Option AV)} {o : Option AV} {x : Int32} (hd : decode cc pc = .ok (.istore 13, 2)) (kk : Z own cc mm E k n μ (pc + 2) (a0 :: a1 :: a2 :: a3 :: a4 :: a5 :: a6 :: a7 :: a8 :: a9 :: a10 :: a11 :: a12 :: some (vi x) :: t) st) : Z own cc mm E k n μ pc (a0 :: a1 :: a2 :: a3 :: a4 :: a5 :: a6 :: a7 :: a8 :: a9 :: a10 :: a11 :: a12 :: o :: t) (vi x :: st) := z_istoreW 13 hd (Nat.le_of_ble_eq_true rfl) kk
theorem z_astore13 {a0 a1 a2 a3 a4 a5 a6 a7 a8 a9 a10 a11 a12 : Option AV} {t : List (Option AV)} {o : Option AV} {r : Option (Nat × Nat)} (hd : decode cc pc = .ok (.astore 13, 2)) (kk : Z own cc mm E k n μ (pc + 2) (a0 :: a1 :: a2 :: a3 :: a4 :: a5 :: a6 :: a7 :: a8 :: a9 :: a10 :: a11 :: a12 :: some (vo r) :: t) st) : Z own cc mm E k n μ pc (a0 :: a1 :: a2 :: a3 :: a4 :: a5 :: a6 :: a7 :: a8 :: a9 :: a10 :: a11 :: a12 :: o :: t) (vo r :: st) := z_astoreW 13 hd (Nat.le_of_ble_eq_true rfl) kk
theorem z_iinc13 {a0 a1 a2 a3 a4 a5 a6 a7 a8 a9 a10 a11 a12 : Option AV} {t : List (Option AV)} {x v : Int32} {c : Int} (hd : decode cc pc = .ok (.iinc 13 c, 3)) (hv : x + Int32.ofInt c = v) (kk : Z own cc mm E k n μ (pc + 3) (a0 :: a1 :: a2 :: a3 :: a4 :: a5 :: a6 :: a7 :: a8 :: a9 :: a10 :: a11 :: a12 :: some (vi v) :: t) st) : Z own cc mm E k n μ pc (a0 :: a1 :: a2 :: a3 :: a4 :: a5 :: a6 :: a7 :: a8 :: a9 :: a10 :: a11 :: a12 :: some (vi x) :: t) st := z_iincW 13 hd rfl hv kk
theorem z_iload14 {a0 a1 a2 a3 a4 a5 a6 a7 a8 a9 a10 a11 a12 a13 : Option AV} {t : List (Option AV)} {x : Int32} (hd : decode cc pc = .ok (.iload 14, 2)) (kk : Z own cc mm E k n μ (pc + 2) (a0 :: a1 :: a2 :: a3 :: a4 :: a5 :: a6 :: a7 :: a8 :: a9 :: a10 :: a11 :: a12 :: a13 :: some (vi x) :: t) (vi x :: st)) : Z own cc mm E k n μ pc (a0 :: a1 :: a2 :: a3 :: a4 :: a5 :: a6 :: a7 :: a8 :: a9 :: a10 :: a11 :: a12 :: a13 :: some (vi x) :: t) st := z_iloadW 14 hd rfl kk
theorem z_aload14 {a0 a1 a2 a3 a4 a5 a6 a7 a8 a9 a10 a11 a12 a13 : Option AV} {t : List (Option AV)} {r : Option (Nat × Nat)} (hd : decode cc pc = .ok (.aload 14, 2)) (kk : Z own cc mm E k n μ (pc + 2) (a0 :: a1 :: a2 :: a3 :: a4 :: a5 :: a6 :: a7 :: a8 :: a9 :: a10 :: a11 :: a12 :: a13 :: some (vo r) :: t) (vo r :: st)) : Z own cc mm E k n μ pc (a0 :: a1 :: a2 :: a3 :: a4 :: a5 :: a6 :: a7 :: a8 :: a9 :: a10 :: a11 :: a12 :: a13 :: some (vo r) :: t) st := z_aloadW 14 hd rfl kk
theorem z_istore14 {a0 a1 a2 a3 a4 a5 a6 a7 a8 a9 a10 a11 a12 a13 : Option AV} {t : List (Option AV)} {o : Option AV} {x : Int32} (hd : decode cc pc = .ok (.istore 14, 2)) (kk : Z own cc mm E k n μ (pc + 2) (a0 :: a1 :: a2 :: a3 :: a4 :: a5 :: a6 :: a7 :: a8 :: a9 :: a10 :: a11 :: a12 :: a13 :: some (vi x) :: t) st) : Z own cc mm E k n μ pc (a0 :: a1 :: a2 :: a3 :: a4 :: a5 :: a6 :: a7 :: a8 :: a9 :: a10 :: a11 :: a12 :: a13 :: o :: t) (vi x :: st) := z_istoreW 14 hd (Nat.le_of_ble_eq_true rfl) kk
theorem z_astore14 {a0 a1 a2 a3 a4 a5 a6 a7 a8 a9 a10 a11 a12 a13 : Option AV} {t : List (Option AV)} {o : Option AV} {r : Option (Nat × Nat)} (hd : decode cc pc = .ok (.astore 14, 2)) (kk : Z own cc mm E k n μ (pc + 2) (a0 :: a1 :: a2 :: a3 :: a4 :: a5 :: a6 :: a7 :: a8 :: a9 :: a10 :: a11 :: a12 :: a13 :: some (vo r) :: t) st) : Z own cc mm E k n μ pc (a0 :: a1 :: a2 :: a3 :: a4 :: a5 :: a6 :: a7 :: a8 :: a9 :: a10 :: a11 :: a12 :: a13 :: o :: t) (vo r :: st) := z_astoreW 14 hd (Nat.le_of_ble_eq_true rfl) kk
theorem z_iinc14 {a0 a1 a2 a3 a4 a5 a6 a7 a8 a9 a10 a11 a12 a13 : Option AV} {t : List (Option AV)} {x v : Int32} {c : Int} (hd : decode cc pc = .ok (.iinc 14 c, 3)) (hv : x + Int32.ofInt c = v) (kk : Z own cc mm E k n μ (pc + 3) (a0 :: a1 :: a2 :: a3 :: a4 :: a5 :: a6 :: a7 :: a8 :: a9 :: a10 :: a11 :: a12 :: a13 :: some (vi v) :: t) st) : Z own cc mm E k n μ pc (a0 :: a1 :: a2 :: a3 :: a4 :: a5 :: a6 :: a7 :: a8 :: a9 :: a10 :: a11 :: a12 :: a13 :: some (vi x) :: t) st := z_iincW 14 hd rfl hv kk
theorem z_iload15 {a0 a1 a2 a3 a4 a5 a6 a7 a8 a9 a10 a11 a12 a13 a14 : Option AV} {t : List (Option AV)} {x : Int32} (hd : decode cc pc = .ok (.iload 15, 2)) (kk : Z own cc mm E k n μ (pc + 2) (a0 :: a1 :: a2 :: a3 :: a4 :: a5 :: a6 :: a7 :: a8 :: a9 :: a10 :: a11 :: a12 :: a13 :: a14 :: some (vi x) :: t) (vi x :: st)) : Z own cc mm E k n μ pc (a0 :: a1 :: a2 :: a3 :: a4 :: a5 :: a6 :: a7 :: a8 :: a9 :: a10 :: a11 :: a12 :: a13 :: a14 :: some (vi x) :: t) st := z_iloadW 15 hd rfl kk
theorem z_aload15 {a0 a1 a2 a3 a4 a5 a6 a7 a8 a9 a10 a11 a12 a13 a14 : Option AV} {t : List (Option AV)} {r : Option (Nat × Nat)} (hd : decode cc pc = .ok (.aload 15, 2)) (kk : Z own cc mm E k n μ (pc + 2) (a0 :: a1 :: a2 :: a3 :: a4 :: a5 :: a6 :: a7 :: a8 :: a9 :: a10 :: a11 :: a12 :: a13 :: a14 :: some (vo r) :: t) (vo r :: st)) : Z own cc mm E k n μ pc (a0 :: a1 :: a2 :: a3 :: a4 :: a5 :: a6 :: a7 :: a8 :: a9 :: a10 :: a11 :: a12 :: a13 :: a14 :: some (vo r) :: t) st := z_aloadW 15 hd rfl kk
theorem z_istore15 {a0 a1 a2 a3 a4 a5 a6 a7 a8 a9 a10 a11 a12 a13 a14 : Option AV} {t : List (Option AV)} {o : Option AV} {x : Int32} (hd : decode cc pc = .ok (.istore 15, 2)) (kk : Z own cc mm E k n μ (pc + 2) (a0 :: a1 :: a2 :: a3 :: a4 :: a5 :: a6 :: a7 :: a8 :: a9 :: a10 :: a11 :: a12 :: a13 :: a14 :: some (vi x) :: t) st) : Z own cc mm E k n μ pc (a0 :: a1 :: a2 :: a3 :: a4 :: a5 :: a6 :: a7 :: a8 :: a9 :: a10 :: a11 :: a12 :: a13 :: a14 :: o :: t) (vi x :: st) := z_istoreW 15 hd (Nat.le_of_ble_eq_true rfl) kk
theorem z_astore15 {a0 a1 a2 a3 a4 a5 a6 a7 a8 a9 a10 a11 a12 a13 a14 : Option AV} {t : List (Option AV)} {o : Option AV} {r : Option (Nat × Nat)} (hd : decode cc pc = .ok (.astore 15, 2)) (kk : Z own cc mm E k n μ (pc + 2) (a0 :: a1 :: a2 :: a3 :: a4 :: a5 :: a6 :: a7 :: a8 :: a9 :: a10 :: a11 :: a12 :: a13 :: a14 :: some (vo r) :: t) st) : Z own cc mm E k n μ pc (a0 :: a1 :: a2 :: a3 :: a4 :: a5 :: a6 :: a7 :: a8 :: a9 :: a10 :: a11 :: a12 :: a13 :: a14 :: o :: t) (vo r :: st) := z_astoreW 15 hd (Nat.le_of_ble_eq_true rfl) kk
theorem z_iinc15 {a0 a1 a2 a3 a4 a5 a6 a7 a8 a9 a10 a11 a12 a13 a14 : Option AV} {t : List (Option AV)} {x v : Int32} {c : Int} (hd : decode cc pc = .ok (.iinc 15 c, 3)) (hv : x + Int32.ofInt c = v) (kk : Z own cc mm E k n μ (pc + 3) (a0 :: a1 :: a2 :: a3 :: a4 :: a5 :: a6 :: a7 :: a8 :: a9 :: a10 :: a11 :: a12 :: a13 :: a14 :: some (vi v) :: t) st) : Z own cc mm E k n μ pc (a0 :: a1 :: a2 :: a3 :: a4 :: a5 :: a6 :: a7 :: a8 :: a9 :: a10 :: a11 :: a12 :: a13 :: a14 :: some (vi x) :: t) st := z_iincW 15 hd rfl hv kk
theorem z_iadd {x y : Int32} (hd : decode cc pc = .ok (.iadd, 1)) (kk : Z own cc mm E k n μ (pc + 1) ls (vi (x + y) :: st)) : Z own cc mm E k n μ pc ls (vi y :: vi x :: st) :=
  fun ad H locs la h => lv_iadd h.ex h.bs hd (kk ad H locs la (h.stk h.lst.tl.tl.i))
theorem z_isub {x y : Int32} (hd : decode cc pc = .ok (.isub, 1)) (kk : Z own cc mm E k n μ (pc + 1) ls (vi (x - y) :: st)) : Z own cc mm E k n μ pc ls (vi y :: vi x :: st) :=
  fun ad H locs la h => lv_isub h.ex h.bs hd (kk ad H locs la (h.stk h.lst.tl.tl.i))
theorem z_imul {x y : Int32} (hd : decode cc pc = .ok (.imul, 1)) (kk : Z own cc mm E k n μ (pc + 1) ls (vi (x * y) :: st)) : Z own cc mm E k n μ pc ls (vi y :: vi x :: st) :=
  fun ad H locs la h => lv_imul h.ex h.bs hd (kk ad H locs la (h.stk h.lst.tl.tl.i))
theorem z_iand {x y : Int32} (hd : decode cc pc = .ok (.iand, 1)) (kk : Z own cc mm E k n μ (pc + 1) ls (vi (x &&& y) :: st)) : Z own cc mm E k n μ pc ls (vi y :: vi x :: st) :=
  fun ad H locs la h => lv_iand h.ex h.bs hd (kk ad H locs la (h.stk h.lst.tl.tl.i))
theorem z_ior {x y : Int32} (hd : decode cc pc = .ok (.ior, 1)) (kk : Z own cc mm E k n μ (pc + 1) ls (vi (x ||| y) :: st)) : Z own cc mm E k n μ pc ls (vi y :: vi x :: st) :=
  fun ad H locs la h => lv_ior h.ex h.bs hd (kk ad H locs la (h.stk h.lst.tl.tl.i))
theorem z_ixor {x y : Int32} (hd : decode cc pc = .ok (.ixor, 1)) (kk : Z own cc mm E k n μ (pc + 1) ls (vi (x ^^^ y) :: st)) : Z own cc mm E k n μ pc ls (vi y :: vi x :: st) :=
  fun ad H locs la h => lv_ixor h.ex h.bs hd (kk ad H locs la (h.stk h.lst.tl.tl.i))
theorem z_ishl {x y : Int32} (hd : decode cc pc = .ok (.ishl, 1)) (kk : Z own cc mm E k n μ (pc + 1) ls (vi (x <<< (y &&& 31)) :: st)) : Z own cc mm E k n μ pc ls (vi y :: vi x :: st) :=
  fun ad H locs la h => lv_ishl h.ex h.bs hd (kk ad H locs la (h.stk h.lst.tl.tl.i))
theorem z_ishr {x y : Int32} (hd : decode cc pc = .ok (.ishr, 1)) (kk : Z own cc mm E k n μ (pc + 1) ls (vi (x >>> (y &&& 31)) :: st)) : Z own cc mm E k n μ pc ls (vi y :: vi x :: st) :=
  fun ad H locs la h => lv_ishr h.ex h.bs hd (kk ad H locs la (h.stk h.lst.tl.tl.i))
theorem z_idiv {x y : Int32} (hd : decode cc pc = .ok (.idiv, 1)) (hne : ¬ y = 0) (kk : Z own cc mm E k n μ (pc + 1) ls (vi (x / y) :: st)) : Z own cc mm E k n μ pc ls (vi y :: vi x :: st) :=
  fun ad H locs la h => lv_idiv h.ex h.bs hd hne (kk ad H locs la (h.stk h.lst.tl.tl.i))
theorem z_irem {x y : Int32} (hd : decode cc pc = .ok (.irem, 1)) (hne : ¬ y = 0) (kk : Z own cc mm E k n μ (pc + 1) ls (vi (x - x / y * y) :: st)) : Z own cc mm E k n μ pc ls (vi y :: vi x :: st) :=
  fun ad H locs la h => lv_irem h.ex h.bs hd hne (kk ad H locs la (h.stk h.lst.tl.tl.i))
theorem z_ineg {x : Int32} (hd : decode cc pc = .ok (.ineg, 1)) (kk : Z own cc mm E k n μ (pc + 1) ls (vi (-x) :: st)) : Z own cc mm E k n μ pc ls (vi x :: st) :=
  fun ad H locs la h => lv_ineg h.ex h.bs hd (kk ad H locs la (h.stk h.lst.tl.i))
theorem z_i2b {x : Int32} (hd : decode cc pc = .ok (.i2b, 1)) (kk : Z own cc mm E k n μ (pc + 1) ls (vi x.toInt8.toInt32 :: st)) : Z own cc mm E k n μ pc ls (vi x :: st) :=
  fun ad H locs la h => lv_i2b h.ex h.bs hd rfl (kk ad H locs la (h.stk h.lst.tl.i))
theorem z_i2c {x : Int32} (hd : decode cc pc = .ok (.i2c, 1)) (kk : Z own cc mm E k n μ (pc + 1) ls (vi (x.toUInt32 % 65536).toInt32 :: st)) : Z own cc mm E k n μ pc ls (vi x :: st) :=
  fun ad H locs la h => lv_i2c h.ex h.bs hd rfl (kk ad H locs la (h.stk h.lst.tl.i))
theorem z_i2l {x : Int32} (hd : decode cc pc = .ok (.i2l, 1)) (kk : Z own cc mm E k n μ (pc + 1) ls (vl x.toInt64 :: st)) : Z own cc mm E k n μ pc ls (vi x :: st) :=
  fun ad H locs la h => lv_i2l h.ex h.bs hd rfl (kk ad H locs la (h.stk h.lst.tl.l))
theorem z_lcmp {x y : Int64} (hd : decode cc pc = .ok (.lcmp, 1)) (kk : Z own cc mm E k n μ (pc + 1) ls (vi (lg_cmp x y) :: st)) : Z own cc mm E k n μ pc ls (vl y :: vl x :: st) :=
  fun ad H locs la h => W.lcmp h.ex h.bs hd (kk ad H locs la (h.stk h.lst.tl.tl.i))
theorem z_dupi {x : Int32} (hd : decode cc pc = .ok (.dup, 1)) (kk : Z own cc mm E k n μ (pc + 1) ls (vi x :: vi x :: st)) : Z own cc mm E k n μ pc ls (vi x :: st) :=
  fun ad H locs la h => lv_dup h.ex h.bs hd rfl (kk ad H locs la (h.stk h.lst.i))
theorem z_dupa {r : Option (Nat × Nat)} (hd : decode cc pc = .ok (.dup, 1)) (kk : Z own cc mm E k n μ (pc + 1) ls (vo r :: vo r :: st)) : Z own cc mm E k n μ pc ls (vo r :: st) :=
  fun ad H locs la h => lv_dup h.ex h.bs hd (cat_vo r) (kk ad H locs la (h.stk (LvL.cons h.lst.hd h.lst)))
theorem z_dup2 {x : Int32} {r : Option (Nat × Nat)} (hd : decode cc pc = .ok (.dup2, 1)) (kk : Z own cc mm E k n μ (pc + 1) ls (vi x :: vo r :: vi x :: vo r :: st)) : Z own cc mm E k n μ pc ls (vi x :: vo r :: st) :=
  fun ad H locs la h => lv_dup2_11 h.ex h.bs hd rfl (cat_vo r) (kk ad H locs la (h.stk (LvL.cons h.lst.hd (LvL.cons h.lst.tl.hd h.lst))))
theorem z_popi {x : Int32} (hd : decode cc pc = .ok (.pop, 1)) (kk : Z own cc mm E k n μ (pc + 1) ls st) : Z own cc mm E k n μ pc ls (vi x :: st) :=
  fun ad H locs la h => lv_pop h.ex h.bs hd rfl (kk ad H locs la (h.stk h.lst.tl))
theorem z_popa {r : Option (Nat × Nat)} (hd : decode cc pc = .ok (.pop, 1)) (kk : Z own cc mm E k n μ (pc + 1) ls st) : Z own cc mm E k n μ pc ls (vo r :: st) :=
  fun ad H locs la h => lv_pop h.ex h.bs hd (cat_vo r) (kk ad H locs la (h.stk h.lst.tl))
theorem z_goto {off : Int} (tgt : Nat) (hd : decode cc pc = .ok (.goto off, 3)) (ht : (pc : Int) + off = (tgt : Int)) (kk : Z own cc mm E k n μ tgt ls st) : Z own cc mm E k n μ pc ls st :=
  fun ad H locs la h => lv_goto h.ex h.bs hd ht (kk ad H locs la h)
theorem z_if_eq {x : Int32} {off : Int} (tgt : Nat) (hd : decode cc pc = .ok (.ifCond .eq off, 3)) (ht : (pc : Int) + off = (tgt : Int)) (kt : x = 0 → Z own cc mm E k n μ tgt ls st) (kf : ¬ x = 0 → Z own cc mm E k n μ (pc + 3) ls st) : Z own cc mm E k n μ pc ls (vi x :: st) :=
  fun ad H locs la h => lv_if_eq h.ex h.bs hd ht (fun c => kt c ad H locs la (h.stk h.lst.tl)) (fun c => kf c ad H locs la (h.stk h.lst.tl))
theorem z_icmp_eq {x y : Int32} {off : Int} (tgt : Nat) (hd : decode cc pc = .ok (.if_icmp .eq off, 3)) (ht : (pc : Int) + off = (tgt : Int)) (kt : x = y → Z own cc mm E k n μ tgt ls st) (kf : ¬ x = y → Z own cc mm E k n μ (pc + 3) ls st) : Z own cc mm E k n μ pc ls (vi y :: vi x :: st) :=
  fun ad H locs la h => lv_icmp_eq h.ex h.bs hd ht (fun c => kt c ad H locs la (h.stk h.lst.tl.tl)) (fun c => kf c ad H locs la (h.stk h.lst.tl.tl))
theorem z_if_ne {x : Int32} {off : Int} (tgt : Nat) (hd : decode cc pc = .ok (.ifCond .ne off, 3)) (ht : (pc : Int) + off = (tgt : Int)) (kt : ¬ x = 0 → Z own cc mm E k n μ tgt ls st) (kf : x = 0 → Z own cc mm E k n μ (pc + 3) ls st) : Z own cc mm E k n μ pc ls (vi x :: st) :=
  fun ad H locs la h => lv_if_ne h.ex h.bs hd ht (fun c => kt c ad H locs la (h.stk h.lst.tl)) (fun c => kf c ad H locs la (h.stk h.lst.tl))
theorem z_icmp_ne {x y : Int32} {off : Int} (tgt : Nat) (hd : decode cc pc = .ok (.if_icmp .ne off, 3)) (ht : (pc : Int) + off = (tgt : Int)) (kt : ¬ x = y → Z own cc mm E k n μ tgt ls st) (kf : x = y → Z own cc mm E k n μ (pc + 3) ls st) : Z own cc mm E k n μ pc ls (vi y :: vi x :: st) :=
  fun ad H locs la h => lv_icmp_ne h.ex h.bs hd ht (fun c => kt c ad H locs la (h.stk h.lst.tl.tl)) (fun c => kf c ad H locs la (h.stk h.lst.tl.tl))
theorem z_if_lt {x : Int32} {off : Int} (tgt : Nat) (hd : decode cc pc = .ok (.ifCond .lt off, 3)) (ht : (pc : Int) + off = (tgt : Int)) (kt : x < 0 → Z own cc mm E k n μ tgt ls st) (kf : ¬ x < 0 → Z own cc mm E k n μ (pc + 3) ls st) : Z own cc mm E k n μ pc ls (vi x :: st) :=
  fun ad H locs la h => lv_if_lt h.ex h.bs hd ht (fun c => kt c ad H locs la (h.stk h.lst.tl)) (fun c => kf c ad H locs la (h.stk h.lst.tl))
theorem z_icmp_lt {x y : Int32} {off : Int} (tgt : Nat) (hd : decode cc pc = .ok (.if_icmp .lt off, 3)) (ht : (pc : Int) + off = (tgt : Int)) (kt : x < y → Z own cc mm E k n μ tgt ls st) (kf : ¬ x < y → Z own cc mm E k n μ (pc + 3) ls st) : Z own cc mm E k n μ pc ls (vi y :: vi x :: st) :=
  fun ad H locs la h => lv_icmp_lt h.ex h.bs hd ht (fun c => kt c ad H locs la (h.stk h.lst.tl.tl)) (fun c => kf c ad H locs la (h.stk h.lst.tl.tl))
theorem z_if_ge {x : Int32} {off : Int} (tgt : Nat) (hd : decode cc pc = .ok (.ifCond .ge off, 3)) (ht : (pc : Int) + off = (tgt : Int)) (kt : 0 ≤ x → Z own cc mm E k n μ tgt ls st) (kf : ¬ 0 ≤ x → Z own cc mm E k n μ (pc + 3) ls st) : Z own cc mm E k n μ pc ls (vi x :: st) :=
  fun ad H locs la h => lv_if_ge h.ex h.bs hd ht (fun c => kt c ad H locs la (h.stk h.lst.tl)) (fun c => kf c ad H locs la (h.stk h.lst.tl))
theorem z_icmp_ge {x y : Int32} {off : Int} (tgt : Nat) (hd : decode cc pc = .ok (.if_icmp .ge off, 3)) (ht : (pc : Int) + off = (tgt : Int)) (kt : y ≤ x → Z own cc mm E k n μ tgt ls st) (kf : ¬ y ≤ x → Z own cc mm E k n μ (pc + 3) ls st) : Z own cc mm E k n μ pc ls (vi y :: vi x :: st) :=
  fun ad H locs la h => lv_icmp_ge h.ex h.bs hd ht (fun c => kt c ad H locs la (h.stk h.lst.tl.tl)) (fun c => kf c ad H locs la (h.stk h.lst.tl.tl))
theorem z_if_gt {x : Int32} {off : Int} (tgt : Nat) (hd : decode cc pc = .ok (.ifCond .gt off, 3)) (ht : (pc : Int) + off = (tgt : Int)) (kt : 0 < x → Z own cc mm E k n μ tgt ls st) (kf : ¬ 0 < x → Z own cc mm E k n μ (pc + 3) ls st) : Z own cc mm E k n μ pc ls (vi x :: st) :=
  fun ad H locs la h => lv_if_gt h.ex h.bs hd ht (fun c => kt c ad H locs la (h.stk h.lst.tl)) (fun c => kf c ad H locs la (h.stk h.lst.tl))
theorem z_icmp_gt {x y : Int32} {off : Int} (tgt : Nat) (hd : decode cc pc = .ok (.if_icmp .gt off, 3)) (ht : (pc : Int) + off = (tgt : Int)) (kt : y < x → Z own cc mm E k n μ tgt ls st) (kf : ¬ y < x → Z own cc mm E k n μ (pc + 3) ls st) : Z own cc mm E k n μ pc ls (vi y :: vi x :: st) :=
  fun ad H locs la h => lv_icmp_gt h.ex h.bs hd ht (fun c => kt c ad H locs la (h.stk h.lst.tl.tl)) (fun c => kf c ad H locs la (h.stk h.lst.tl.tl))
theorem z_if_le {x : Int32} {off : Int} (tgt : Nat) (hd : decode cc pc = .ok (.ifCond .le off, 3)) (ht : (pc : Int) + off = (tgt : Int)) (kt : x ≤ 0 → Z own cc mm E k n μ tgt ls st) (kf : ¬ x ≤ 0 → Z own cc mm E k n μ (pc + 3) ls st) : Z own cc mm E k n μ pc ls (vi x :: st) :=
  fun ad H locs la h => lv_if_le h.ex h.bs hd ht (fun c => kt c ad H locs la (h.stk h.lst.tl)) (fun c => kf c ad H locs la (h.stk h.lst.tl))
theorem z_icmp_le {x y : Int32} {off : Int} (tgt : Nat) (hd : decode cc pc = .ok (.if_icmp .le off, 3)) (ht : (pc : Int) + off = (tgt : Int)) (kt : x ≤ y → Z own cc mm E k n μ tgt ls st) (kf : ¬ x ≤ y → Z own cc mm E k n μ (pc + 3) ls st) : Z own cc mm E k n μ pc ls (vi y :: vi x :: st) :=
  fun ad H locs la h => lv_icmp_le h.ex h.bs hd ht (fun c => kt c ad H locs la (h.stk h.lst.tl.tl)) (fun c => kf c ad H locs la (h.stk h.lst.tl.tl))
theorem z_ifnull {r : Option (Nat × Nat)} {off : Int} (tgt : Nat) (hd : decode cc pc = .ok (.ifnull off, 3)) (ht : (pc : Int) + off = (tgt : Int)) (kt : r = none → Z own cc mm E k n μ tgt ls st) (kf : ∀ h, r = some h → Z own cc mm E k n μ (pc + 3) ls st) : Z own cc mm E k n μ pc ls (vo r :: st) := by
  intro ad H locs la h
  cases r with
  | none => exact lv_ifnullN h.ex h.bs hd ht (kt rfl ad H locs la (h.stk h.lst.tl))
  | some q => exact lv_ifnull h.ex h.bs hd (kf q rfl ad H locs la (h.stk h.lst.tl))
theorem z_ifnonnull {r : Option (Nat × Nat)} {off : Int} (tgt : Nat) (hd : decode cc pc = .ok (.ifnonnull off, 3)) (ht : (pc : Int) + off = (tgt : Int)) (kt : ∀ h, r = some h → Z own cc mm E k n μ tgt ls st) (kf : r = none → Z own cc mm E k n μ (pc + 3) ls st) : Z own cc mm E k n μ pc ls (vo r :: st) := by
  intro ad H locs la h
  cases r with
  | none => exact lv_ifnonnullN h.ex h.bs hd (kf rfl ad H locs la (h.stk h.lst.tl))
  | some q => exact lv_ifnonnull h.ex h.bs hd ht (kt q rfl ad H locs la (h.stk h.lst.tl))
def crn (ad : Ad) (r : Option (Nat × Nat)) : Option Nat := r.map (fun h => ad h.1 h.2)
theorem cr_rf (r : Option (Nat × Nat)) : cr ad r = va_rf (crn ad r) := by cases r <;> rfl
theorem Rel.inj {Γ : Gx} (hR : Rel Γ ad μ H) {a b : Nat × Nat} (ha : Lv μ a) (hb : Lv μ b) (p1 : a.1 ≠ 0) (p2 : b.1 ≠ 0) (e : ad a.1 a.2 = ad b.1 b.2) : a = b := by
  obtain ⟨x, y⟩ := hR.2.2.2.1 a.1 a.2 b.1 b.2 p1 p2 ha hb e
  exact Prod.ext x y
theorem z_acmp_eq {x y : Nat × Nat} {off : Int} (tgt : Nat) (hd : decode cc pc = .ok (.if_acmp .eq off, 3)) (ht : (pc : Int) + off = (tgt : Int)) (hx : x.1 ≠ 0) (hy : y.1 ≠ 0) (kt : x = y → Z own cc mm E k n μ tgt ls st) (kf : ¬ x = y → Z own cc mm E k n μ (pc + 3) ls st) : Z own cc mm E k n μ pc ls (vo (some y) :: vo (some x) :: st) := by
  intro ad H locs la h
  show Wc E H locs k n (F0 (cM E) pc la (cr ad (some y) :: cr ad (some x) :: st.map (cv ad)))
  rw [cr_rf, cr_rf]
  exact lv_acmp_eq h.ex h.bs hd ht (fun c => kt (h.rel.inj h.lst.tl.hd h.lst.hd hx hy (Option.some.inj c)) ad H locs la (h.stk h.lst.tl.tl)) (fun c => kf (fun q => c (by rw [q])) ad H locs la (h.stk h.lst.tl.tl))
theorem z_acmp_ne {x y : Nat × Nat} {off : Int} (tgt : Nat) (hd : decode cc pc = .ok (.if_acmp .ne off, 3)) (ht : (pc : Int) + off = (tgt : Int)) (hx : x.1 ≠ 0) (hy : y.1 ≠ 0) (kt : ¬ x = y → Z own cc mm E k n μ tgt ls st) (kf : x = y → Z own cc mm E k n μ (pc + 3) ls st) : Z own cc mm E k n μ pc ls (vo (some y) :: vo (some x) :: st) := by
  intro ad H locs la h
  show Wc E H locs k n (F0 (cM E) pc la (cr ad (some y) :: cr ad (some x) :: st.map (cv ad)))
  rw [cr_rf, cr_rf]
  exact lv_acmp_ne h.ex h.bs hd ht (fun c => kt (fun q => c (by rw [q])) ad H locs la (h.stk h.lst.tl.tl)) (fun c => kf (h.rel.inj h.lst.tl.hd h.lst.hd hx hy (Option.some.inj c)) ad H locs la (h.stk h.lst.tl.tl))
theorem z_tabOut {dflt lo hi : Int} {offs : Array Int} {len : Nat} {x : Int32} (tgt : Nat) (hd : decode cc pc = .ok (.tableswitch dflt lo hi offs, len)) (h1 : x.toInt < lo ∨ hi < x.toInt) (ht : (pc : Int) + dflt = (tgt : Int)) (kk : Z own cc mm E k n μ tgt ls st) : Z own cc mm E k n μ pc ls (vi x :: st) :=
  fun ad H locs la h => lv_tableOut h.ex h.bs hd h1 ht (kk ad H locs la (h.stk h.lst.tl))
theorem z_tabIn {dflt lo hi : Int} {offs : Array Int} {len : Nat} {x : Int32} {off : Int} (tgt : Nat) (hd : decode cc pc = .ok (.tableswitch dflt lo hi offs, len)) (h1 : ¬ x.toInt < lo) (h2 : ¬ hi < x.toInt) (ho : offs[(x.toInt - lo).toNat]? = some off) (ht : (pc : Int) + off = (tgt : Int)) (kk : Z own cc mm E k n μ tgt ls st) : Z own cc mm E k n μ pc ls (vi x :: st) :=
  fun ad H locs la h => lv_tableIn h.ex h.bs hd h1 h2 ho ht (kk ad H locs la (h.stk h.lst.tl))
theorem z_look {dflt : Int} {ps : Array (Int × Int)} {len : Nat} {x : Int32} {off : Int} (tgt : Nat) (hd : decode cc pc = .ok (.lookupswitch dflt ps, len)) (hp : (ps.toList.zip (ps.toList.drop 1)).all (fun (a, next) => a.1 < next.1) = true) (ho : Op.lookupswitch.offset ps.toList dflt x.toInt = off) (ht : (pc : Int) + off = (tgt : Int)) (kk : Z own cc mm E k n μ tgt ls st) : Z own cc mm E k n μ pc ls (vi x :: st) :=
  fun ad H locs la h => lv_lookup h.ex h.bs hd hp ho ht (kk ad H locs la (h.stk h.lst.tl))
theorem z_widen {k' n' : Nat} (h1 : k ≤ k') (h2 : n ≤ n') (kk : Z own cc mm E k' n' μ pc ls st) : Z own cc mm E k n μ pc ls st :=
  fun ad H locs la h => W.widen h1 h2 (kk ad H locs la h)
end ZR
