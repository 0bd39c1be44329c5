/-! new arrays of numbers -/
section NEWA
variable {own : String} {cc : ByteArray} {mm : MM} {E : Ex} {k n : Nat} {μ : Mem} {pc : Nat} {ls : List (Option AV)} {st : List AV}
theorem leB {a b : Nat} (h : Nat.ble a b = true) : a ≤ b := Nat.le_of_ble_eq_true h
theorem z_newI {x : Int32} (p : Nat) (hd : decode cc pc = .ok (.newarray .int, 2)) (hp : kd p = .inr (0, 0)) (hx : x = nI (fl p)) (hN : fl p ≤ 65536) (hk : k + 1 ≤ mm.2.2.2.2.cells) (hn : n + fl p ≤ mm.2.2.2.2.slots) (kk : Z own cc mm E (k + 1) (n + fl p) (nw μ p (fl p)) (pc + 2) ls (vr p (gC μ p) :: st)) : Z own cc mm E k n μ pc ls (vi x :: st) :=
  z_newA0 p hd hp (by decide) rfl rfl (fun _ _ h => h) q394 hx hN (by decide) (fun _ => rfl) hk hn kk
theorem z_newB {x : Int32} (p : Nat) (hd : decode cc pc = .ok (.newarray .byte, 2)) (hp : kd p = .inr (1, 0)) (hx : x = nI (fl p)) (hN : fl p ≤ 65536) (hk : k + 1 ≤ mm.2.2.2.2.cells) (hn : n + fl p ≤ mm.2.2.2.2.slots) (kk : Z own cc mm E (k + 1) (n + fl p) (nw μ p (fl p)) (pc + 2) ls (vr p (gC μ p) :: st)) : Z own cc mm E k n μ pc ls (vi x :: st) :=
  z_newA0 p hd hp (by decide) rfl rfl (fun _ _ h => h) q221 hx hN (by decide) (fun _ => rfl) hk hn kk
theorem z_newZ {x : Int32} (p : Nat) (hd : decode cc pc = .ok (.newarray .boolean, 2)) (hp : kd p = .inr (2, 0)) (hx : x = nI (fl p)) (hN : fl p ≤ 65536) (hk : k + 1 ≤ mm.2.2.2.2.cells) (hn : n + fl p ≤ mm.2.2.2.2.slots) (kk : Z own cc mm E (k + 1) (n + fl p) (nw μ p (fl p)) (pc + 2) ls (vr p (gC μ p) :: st)) : Z own cc mm E k n μ pc ls (vi x :: st) :=
  z_newA0 p hd hp (by decide) rfl rfl (fun _ _ h => h) q1511 hx hN (by decide) (fun _ => rfl) hk hn kk
end NEWA
