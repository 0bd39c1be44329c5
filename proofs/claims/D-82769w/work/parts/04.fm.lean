/-! pools of cells; the class list; the flat memory; what the heap holds of it -/
set_option maxRecDepth 100000
def cl : List vw_C := [(RX1, TX1, 29), (RX2, TX2, 12), (RX3, TX3, 7), (RX4, TX4, 6), (RX5, TX5, 83), (RX6, TX6, 3), (RX8, TX8, 3), (RX9, TX9, 1), (RX10, TX10, 3), (RX11, TX11, 3), (RX12, TX12, 4), (RX13, TX13, 6), (RX14, TX14, 7), (RX15, TX15, 8), (RX16, TX16, 5), (RX17, TX17, 4), (RJ3, TJ3, 6), (RJ8, TJ8, 6), (RJ9, TJ9, 6), (RJ12, TJ12, 6), (RJ13, TJ13, 6)]
def tyT (ci : Nat) : Nat → FieldType := match ci with
  | 0 => tyX1
  | 1 => tyX2
  | 2 => tyX3
  | 3 => tyX4
  | 4 => tyX5
  | 5 => tyX6
  | 6 => tyX8
  | 7 => tyX9
  | 8 => tyX10
  | 9 => tyX11
  | 10 => tyX12
  | 11 => tyX13
  | 12 => tyX14
  | 13 => tyX15
  | 14 => tyX16
  | 15 => tyX17
  | 16 => tyJ3
  | 17 => tyJ8
  | 18 => tyJ9
  | 19 => tyJ12
  | 20 => tyJ13
  | _ => fun _ => .int
theorem clOK {ci : Nat} {r : vw_C} (h : cl[ci]? = some r) : (∀ w ∈ u_ws r.1 r.2.1 r.2.2, w ∈ lw_all) ∧ (∀ k, k < r.2.2 → parseFieldDescriptor (r.2.1 k).2.2.1 = some (tyT ci k)) ∧ (∀ a, a < r.2.2 → ∀ b, b < r.2.2 → a ≠ b → (r.2.1 a).2.1 ≠ (r.2.1 b).2.1) := by
  match ci, h with
  | 0, h => cases h; exact ⟨in_X1, tyX1_ok, nmX1⟩
  | 1, h => cases h; exact ⟨in_X2, tyX2_ok, nmX2⟩
  | 2, h => cases h; exact ⟨in_X3, tyX3_ok, nmX3⟩
  | 3, h => cases h; exact ⟨in_X4, tyX4_ok, nmX4⟩
  | 4, h => cases h; exact ⟨in_X5, tyX5_ok, nmX5⟩
  | 5, h => cases h; exact ⟨in_X6, tyX6_ok, nmX6⟩
  | 6, h => cases h; exact ⟨in_X8, tyX8_ok, nmX8⟩
  | 7, h => cases h; exact ⟨in_X9, tyX9_ok, nmX9⟩
  | 8, h => cases h; exact ⟨in_X10, tyX10_ok, nmX10⟩
  | 9, h => cases h; exact ⟨in_X11, tyX11_ok, nmX11⟩
  | 10, h => cases h; exact ⟨in_X12, tyX12_ok, nmX12⟩
  | 11, h => cases h; exact ⟨in_X13, tyX13_ok, nmX13⟩
  | 12, h => cases h; exact ⟨in_X14, tyX14_ok, nmX14⟩
  | 13, h => cases h; exact ⟨in_X15, tyX15_ok, nmX15⟩
  | 14, h => cases h; exact ⟨in_X16, tyX16_ok, nmX16⟩
  | 15, h => cases h; exact ⟨in_X17, tyX17_ok, nmX17⟩
  | 16, h => cases h; exact ⟨in_J3, tyJ3_ok, nmJ3⟩
  | 17, h => cases h; exact ⟨in_J8, tyJ8_ok, nmJ8⟩
  | 18, h => cases h; exact ⟨in_J9, tyJ9_ok, nmJ9⟩
  | 19, h => cases h; exact ⟨in_J12, tyJ12_ok, nmJ12⟩
  | 20, h => cases h; exact ⟨in_J13, tyJ13_ok, nmJ13⟩
  | k + 21, h => simp [cl] at h
def tyA : List FieldType := [.int, .byte, .boolean, .long, .object RX11, .object RX12, .array .byte, .object RX14, .object RX15, .object RX17, .object RX16, .object RX6, .object RJ4]
def kdA : List (Nat ⊕ (Nat × Nat)) := [.inl 999, .inl 0, .inl 1, .inl 2, .inl 3, .inr (1, 0), .inr (12, 1), .inr (12, 1), .inr (12, 1), .inr (11, 1), .inr (1, 0), .inr (4, 1), .inr (5, 1), .inr (6, 1), .inr (1, 0), .inr (7, 1), .inr (8, 1), .inr (9, 1), .inr (10, 1), .inr (0, 0), .inr (0, 0), .inr (0, 0), .inr (0, 0), .inl 10, .inr (0, 0), .inr (1, 0)]
def kdB : List (Nat ⊕ (Nat × Nat)) := [.inl 9, .inr (11, 1), .inl 5, .inl 6, .inl 7, .inl 8, .inl 11, .inl 12, .inl 13, .inl 13, .inl 14, .inl 15, .inr (16, 3), .inr (17, 3), .inr (18, 3), .inr (19, 3), .inr (20, 3), .inr (0, 0), .inr (3, 2), .inl 9, .inr (11, 1), .inl 5, .inl 11, .inr (1, 0), .inl 4]
/-- the kind of a pool: objects of a class, or arrays of a type (sort 0: numbers, 1: references, 2: longs) -/
def kd (p : Nat) : Nat ⊕ (Nat × Nat) := if p < 26 then kdA.getD p (.inl 999) else if p < 51 then kdB.getD (p - 26) (.inl 999) else if p = 53 then .inr (1, 0) else if p = 73 ∨ p = 81 ∨ p = 84 ∨ p = 109 ∨ p = 114 then .inr (2, 0) else .inr (0, 0)
def flA : List Nat := [0, 0, 0, 0, 0, 400, 6, 8, 9, 16, 48, 12, 80, 80, 80, 120, 120, 150, 20, 4, 120, 9, 20, 0, 5, 24, 0, 0, 0, 0, 0, 0, 0, 0, 0, 0, 0, 0, 0, 0, 0, 0, 0, 5, 1, 0, 0, 0, 0, 24, 0]
def flM1 : List Nat := [0, 0, 400, 0, 0, 0, 0, 0, 0, 5, 13, 13, 208, 208, 208, 208, 5200, 5200, 5200, 0, 0, 9, 400, 0, 0, 0, 0, 0, 0, 80, 80, 400, 1920, 80, 0, 6400, 48, 0, 0, 0, 0, 0]
def flM2 : List Nat := [0, 0, 0, 0, 4, 20, 20, 20, 20, 20, 0, 120, 120, 120, 120, 120, 120, 120, 120, 120, 120, 120, 120, 840, 0, 150, 150, 150, 150, 0, 0, 0, 0, 0, 0, 120, 0, 840, 150, 120, 120]
/-- the length of the arrays of a pool -/
def fl (p : Nat) : Nat := if p < 51 then flA.getD p 0 else if p < 93 then flM1.getD (p - 51) 0 else flM2.getD (p - 93) 0
/-! the String constants: class, entry, text; their bytes -/
def strL : List (String × Nat × String) := [("PassportOffice$Reader", 17, "need"), ("PassportOffice$Reader", 19, "fee"), ("PassportOffice$Reader", 21, "back"), ("PassportOffice$Reader", 23, "years"), ("PassportOffice$Reader", 25, "risk"), ("PassportOffice$Reader", 27, "see"), ("PassportOffice$Reader", 33, "deed"), ("PassportOffice$Reader", 35, "photo"), ("PassportOffice$Reader", 37, "consent"), ("PassportOffice$Reader", 39, "both"), ("PassportOffice$Reader", 41, "oldbook"), ("PassportOffice$Reader", 43, "report"), ("PassportOffice$Reader", 45, "ticket"), ("PassportOffice$Reader", 47, "change"), ("PassportOffice$Reader", 52, "age"), ("PassportOffice$Reader", 54, "wanted"), ("PassportOffice$Reader", 56, "valid"), ("PassportOffice$Reader", 58, "abroad"), ("PassportOffice$Reader", 60, "first"), ("PassportOffice$Reader", 62, "renew"), ("PassportOffice$Reader", 64, "lost"), ("PassportOffice$Reader", 66, "second"), ("PassportOffice$Reader", 68, "urgent"), ("PassportOffice$Reader", 137, "if"), ("PassportOffice$Reader", 149, "or"), ("PassportOffice$Reader", 159, "and"), ("PassportOffice$Reader", 161, "not"), ("PassportOfficeModel", 220, "age"), ("PassportOfficeModel", 222, "wanted"), ("PassportOfficeModel", 224, "valid"), ("PassportOfficeModel", 226, "abroad"), ("PassportOfficeModel", 228, "first"), ("PassportOfficeModel", 230, "renew"), ("PassportOfficeModel", 232, "lost"), ("PassportOfficeModel", 234, "second"), ("PassportOfficeModel", 236, "urgent"), ("PassportOfficeModel", 238, "deed"), ("PassportOfficeModel", 240, "photo"), ("PassportOfficeModel", 242, "consent"), ("PassportOfficeModel", 244, "both"), ("PassportOfficeModel", 246, "oldbook"), ("PassportOfficeModel", 248, "report"), ("PassportOfficeModel", 250, "ticket"), ("PassportOfficeModel", 252, "change"), ("PassportOfficeModel", 265, "not"), ("PassportOfficeModel", 284, "and"), ("PassportOfficeModel", 289, "or"), ("PassportOfficeModel", 291, "need"), ("PassportOfficeModel", 293, "fee"), ("PassportOfficeModel", 295, "years"), ("PassportOfficeModel", 297, "risk"), ("PassportOfficeModel", 299, "see"), ("PassportOfficeModel", 301, "back"), ("PassportOfficeModel", 306, "if")]
def strB : List (List Int32) := [[110, 101, 101, 100], [102, 101, 101], [98, 97, 99, 107], [121, 101, 97, 114, 115], [114, 105, 115, 107], [115, 101, 101], [100, 101, 101, 100], [112, 104, 111, 116, 111], [99, 111, 110, 115, 101, 110, 116], [98, 111, 116, 104], [111, 108, 100, 98, 111, 111, 107], [114, 101, 112, 111, 114, 116], [116, 105, 99, 107, 101, 116], [99, 104, 97, 110, 103, 101], [97, 103, 101], [119, 97, 110, 116, 101, 100], [118, 97, 108, 105, 100], [97, 98, 114, 111, 97, 100], [102, 105, 114, 115, 116], [114, 101, 110, 101, 119], [108, 111, 115, 116], [115, 101, 99, 111, 110, 100], [117, 114, 103, 101, 110, 116], [105, 102], [111, 114], [97, 110, 100], [110, 111, 116], [97, 103, 101], [119, 97, 110, 116, 101, 100], [118, 97, 108, 105, 100], [97, 98, 114, 111, 97, 100], [102, 105, 114, 115, 116], [114, 101, 110, 101, 119], [108, 111, 115, 116], [115, 101, 99, 111, 110, 100], [117, 114, 103, 101, 110, 116], [100, 101, 101, 100], [112, 104, 111, 116, 111], [99, 111, 110, 115, 101, 110, 116], [98, 111, 116, 104], [111, 108, 100, 98, 111, 111, 107], [114, 101, 112, 111, 114, 116], [116, 105, 99, 107, 101, 116], [99, 104, 97, 110, 103, 101], [110, 111, 116], [97, 110, 100], [111, 114], [110, 101, 101, 100], [102, 101, 101], [121, 101, 97, 114, 115], [114, 105, 115, 107], [115, 101, 101], [98, 97, 99, 107], [105, 102]]
def exN : List String := ["java/lang/IllegalArgumentException", "java/lang/UnsupportedOperationException", "java/lang/IndexOutOfBoundsException", "java/util/NoSuchElementException", "java/lang/IllegalStateException", "PassportOffice$Wrong"]
/-! values -/
abbrev AV : Type := Int32 ⊕ (Option (Nat × Nat)) ⊕ Int64
def vi (x : Int32) : AV := .inl x
def vo (r : Option (Nat × Nat)) : AV := .inr (.inl r)
def vl (x : Int64) : AV := .inr (.inr x)
abbrev vr (p i : Nat) : AV := vo (some (p, i))
abbrev Ad : Type := Nat → Nat → Nat
def cr (ad : Ad) (r : Option (Nat × Nat)) : Value := match r with
  | none => .null
  | some h => .ref (ad h.1 h.2)
def cv (ad : Ad) (v : AV) : Value := match v with
  | .inl x => .int x
  | .inr (.inl r) => cr ad r
  | .inr (.inr y) => .long y
theorem cv_vi (ad : Ad) (x : Int32) : cv ad (vi x) = .int x := rfl
theorem cv_vo (ad : Ad) (r : Option (Nat × Nat)) : cv ad (vo r) = cr ad r := rfl
theorem cr_cases (ad : Ad) (r : Option (Nat × Nat)) : cr ad r = .null ∨ ∃ a, cr ad r = .ref a := by
  cases r with
  | none => exact Or.inl rfl
  | some h => exact Or.inr ⟨_, rfl⟩
/-! memory: numbers, references, longs, lengths, counts -/
abbrev Mem : Type := (Nat → Nat → Nat → Int32) × (Nat → Nat → Nat → Option (Nat × Nat)) × (Nat → Nat → Nat → Int64) × (Nat → Nat → Nat) × (Nat → Nat)
def gI (μ : Mem) (p i k : Nat) : Int32 := μ.1 p i k
def gP (μ : Mem) (p i k : Nat) : Option (Nat × Nat) := μ.2.1 p i k
def gJ (μ : Mem) (p i k : Nat) : Int64 := μ.2.2.1 p i k
/-- the length of an array: that of its pool, but for the two pools of arrays of any length -/
def gL (μ : Mem) (p i : Nat) : Nat := if p = 27 ∨ p = 46 then μ.2.2.2.1 p i else fl p
def gC (μ : Mem) (p : Nat) : Nat := μ.2.2.2.2 p
def u3 {α : Type} (f : Nat → Nat → Nat → α) (p i k : Nat) (x : α) : Nat → Nat → Nat → α := va_up f p (va_up (f p) i (va_up (f p i) k x))
theorem u3_eq {α : Type} (f : Nat → Nat → Nat → α) (p i k : Nat) (x : α) (p' i' k' : Nat) : u3 f p i k x p' i' k' = if p' = p ∧ i' = i ∧ k' = k then x else f p' i' k' := by
  unfold u3 va_up
  by_cases h1 : p' = p
  · subst h1
    by_cases h2 : i' = i
    · subst h2
      by_cases h3 : k' = k
      · simp [h3]
      · simp [h3]
    · simp [h2]
  · simp [h1]
def sI (μ : Mem) (p i k : Nat) (x : Int32) : Mem := (u3 μ.1 p i k x, μ.2)
def sP (μ : Mem) (p i k : Nat) (x : Option (Nat × Nat)) : Mem := (μ.1, u3 μ.2.1 p i k x, μ.2.2)
def sJ (μ : Mem) (p i k : Nat) (x : Int64) : Mem := (μ.1, μ.2.1, u3 μ.2.2.1 p i k x, μ.2.2.2)
/-- a new cell of a pool, all zero, of length n -/
def nw (μ : Mem) (p n : Nat) : Mem := (va_up μ.1 p (va_up (μ.1 p) (gC μ p) (fun _ => 0)), va_up μ.2.1 p (va_up (μ.2.1 p) (gC μ p) (fun _ => none)), va_up μ.2.2.1 p (va_up (μ.2.2.1 p) (gC μ p) (fun _ => 0)), va_up μ.2.2.2.1 p (va_up (μ.2.2.2.1 p) (gC μ p) n), va_up μ.2.2.2.2 p (gC μ p + 1))
theorem gI_sI (μ : Mem) (p i k : Nat) (x : Int32) (p' i' k' : Nat) : gI (sI μ p i k x) p' i' k' = if p' = p ∧ i' = i ∧ k' = k then x else gI μ p' i' k' := u3_eq _ _ _ _ _ _ _ _
theorem gP_sP (μ : Mem) (p i k : Nat) (x : Option (Nat × Nat)) (p' i' k' : Nat) : gP (sP μ p i k x) p' i' k' = if p' = p ∧ i' = i ∧ k' = k then x else gP μ p' i' k' := u3_eq _ _ _ _ _ _ _ _
theorem gJ_sJ (μ : Mem) (p i k : Nat) (x : Int64) (p' i' k' : Nat) : gJ (sJ μ p i k x) p' i' k' = if p' = p ∧ i' = i ∧ k' = k then x else gJ μ p' i' k' := u3_eq _ _ _ _ _ _ _ _
theorem gP_sI (μ : Mem) (p i k : Nat) (x : Int32) (p' i' k' : Nat) : gP (sI μ p i k x) p' i' k' = gP μ p' i' k' := rfl
theorem gJ_sI (μ : Mem) (p i k : Nat) (x : Int32) (p' i' k' : Nat) : gJ (sI μ p i k x) p' i' k' = gJ μ p' i' k' := rfl
theorem gL_sI (μ : Mem) (p i k : Nat) (x : Int32) (p' i' : Nat) : gL (sI μ p i k x) p' i' = gL μ p' i' := rfl
theorem gC_sI (μ : Mem) (p i k : Nat) (x : Int32) (p' : Nat) : gC (sI μ p i k x) p' = gC μ p' := rfl
theorem gI_sP (μ : Mem) (p i k : Nat) (x : Option (Nat × Nat)) (p' i' k' : Nat) : gI (sP μ p i k x) p' i' k' = gI μ p' i' k' := rfl
theorem gJ_sP (μ : Mem) (p i k : Nat) (x : Option (Nat × Nat)) (p' i' k' : Nat) : gJ (sP μ p i k x) p' i' k' = gJ μ p' i' k' := rfl
theorem gL_sP (μ : Mem) (p i k : Nat) (x : Option (Nat × Nat)) (p' i' : Nat) : gL (sP μ p i k x) p' i' = gL μ p' i' := rfl
theorem gC_sP (μ : Mem) (p i k : Nat) (x : Option (Nat × Nat)) (p' : Nat) : gC (sP μ p i k x) p' = gC μ p' := rfl
theorem gI_sJ (μ : Mem) (p i k : Nat) (x : Int64) (p' i' k' : Nat) : gI (sJ μ p i k x) p' i' k' = gI μ p' i' k' := rfl
theorem gP_sJ (μ : Mem) (p i k : Nat) (x : Int64) (p' i' k' : Nat) : gP (sJ μ p i k x) p' i' k' = gP μ p' i' k' := rfl
theorem gL_sJ (μ : Mem) (p i k : Nat) (x : Int64) (p' i' : Nat) : gL (sJ μ p i k x) p' i' = gL μ p' i' := rfl
theorem gC_sJ (μ : Mem) (p i k : Nat) (x : Int64) (p' : Nat) : gC (sJ μ p i k x) p' = gC μ p' := rfl
theorem v2_eq {α : Type} (f : Nat → Nat → α) (p i : Nat) (x : α) (p' i' : Nat) : va_up f p (va_up (f p) i x) p' i' = if p' = p ∧ i' = i then x else f p' i' := by
  unfold va_up
  by_cases h1 : p' = p
  · subst h1
    by_cases h2 : i' = i
    · simp [h2]
    · simp [h2]
  · simp [h1]
theorem gI_nw (μ : Mem) (p n p' i' k' : Nat) : gI (nw μ p n) p' i' k' = if p' = p ∧ i' = gC μ p then 0 else gI μ p' i' k' := by
  show va_up μ.1 p (va_up (μ.1 p) (gC μ p) (fun _ => 0)) p' i' k' = _
  rw [v2_eq]
  split <;> rfl
theorem gP_nw (μ : Mem) (p n p' i' k' : Nat) : gP (nw μ p n) p' i' k' = if p' = p ∧ i' = gC μ p then none else gP μ p' i' k' := by
  show va_up μ.2.1 p (va_up (μ.2.1 p) (gC μ p) (fun _ => none)) p' i' k' = _
  rw [v2_eq]
  split <;> rfl
theorem gJ_nw (μ : Mem) (p n p' i' k' : Nat) : gJ (nw μ p n) p' i' k' = if p' = p ∧ i' = gC μ p then 0 else gJ μ p' i' k' := by
  show va_up μ.2.2.1 p (va_up (μ.2.2.1 p) (gC μ p) (fun _ => 0)) p' i' k' = _
  rw [v2_eq]
  split <;> rfl
theorem gL_nw (μ : Mem) (p n p' i' : Nat) (h : ¬ (p = 27 ∨ p = 46) → n = fl p) : gL (nw μ p n) p' i' = if p' = p ∧ i' = gC μ p then n else gL μ p' i' := by
  show (if p' = 27 ∨ p' = 46 then va_up μ.2.2.2.1 p (va_up (μ.2.2.2.1 p) (gC μ p) n) p' i' else fl p') = _
  rw [v2_eq]
  unfold gL
  by_cases e : p' = p ∧ i' = gC μ p
  · rw [if_pos e, if_pos e, e.1]
    by_cases q : p = 27 ∨ p = 46
    · rw [if_pos q]
    · rw [if_neg q]; exact (h q).symm
  · rw [if_neg e, if_neg e]
theorem gC_nw (μ : Mem) (p n p' : Nat) : gC (nw μ p n) p' = if p' = p then gC μ p + 1 else gC μ p' := rfl
/-! live -/
def Lv (μ : Mem) (h : Nat × Nat) : Prop := h.2 < gC μ h.1
def LvV (μ : Mem) (v : AV) : Prop := match v with
  | .inr (.inl (some h)) => Lv μ h
  | _ => True
def LvL (μ : Mem) (st : List AV) : Prop := ∀ v ∈ st, LvV μ v
def LvO (μ : Mem) (ls : List (Option AV)) : Prop := ∀ v, some v ∈ ls → LvV μ v
def Mn (μ0 μ : Mem) : Prop := ∀ p, gC μ0 p ≤ gC μ p
theorem Mn.rf {μ : Mem} : Mn μ μ := fun _ => Nat.le_refl _
theorem Mn.tr {a b c : Mem} (h1 : Mn a b) (h2 : Mn b c) : Mn a c := fun p => Nat.le_trans (h1 p) (h2 p)
theorem Lv.mn {μ μ' : Mem} (h : Mn μ μ') {r : Nat × Nat} (hr : Lv μ r) : Lv μ' r := Nat.lt_of_lt_of_le hr (h _)
theorem LvV.mn {μ μ' : Mem} (h : Mn μ μ') {v : AV} (hv : LvV μ v) : LvV μ' v := by
  match v with
  | .inl _ => trivial
  | .inr (.inl none) => trivial
  | .inr (.inl (some r)) => exact Lv.mn (r := r) h hv
  | .inr (.inr _) => trivial
theorem LvL.mn {μ μ' : Mem} (h : Mn μ μ') {st : List AV} (hs : LvL μ st) : LvL μ' st := fun v hv => (hs v hv).mn h
theorem LvO.mn {μ μ' : Mem} (h : Mn μ μ') {ls : List (Option AV)} (hs : LvO μ ls) : LvO μ' ls := fun v hv => (hs v hv).mn h
theorem LvL.tl {μ : Mem} {a : AV} {st : List AV} (h : LvL μ (a :: st)) : LvL μ st := fun v hv => h v (List.mem_cons_of_mem _ hv)
theorem LvL.hd {μ : Mem} {a : AV} {st : List AV} (h : LvL μ (a :: st)) : LvV μ a := h a List.mem_cons_self
theorem LvL.cons {μ : Mem} {a : AV} {st : List AV} (ha : LvV μ a) (h : LvL μ st) : LvL μ (a :: st) := fun v hv => by
  rcases List.mem_cons.mp hv with e | e
  · rw [e]; exact ha
  · exact h v e
theorem LvL.i {μ : Mem} {x : Int32} {st : List AV} (h : LvL μ st) : LvL μ (vi x :: st) := LvL.cons (a := vi x) trivial h
theorem LvL.l {μ : Mem} {x : Int64} {st : List AV} (h : LvL μ st) : LvL μ (vl x :: st) := LvL.cons (a := vl x) trivial h
theorem LvL.n {μ : Mem} {st : List AV} (h : LvL μ st) : LvL μ (vo none :: st) := LvL.cons (a := vo none) trivial h
theorem LvL.nil {μ : Mem} : LvL μ [] := fun v h => by cases h
theorem LvO.tl {μ : Mem} {a : Option AV} {ls : List (Option AV)} (h : LvO μ (a :: ls)) : LvO μ ls := fun v hv => h v (List.mem_cons_of_mem _ hv)
theorem LvO.hd {μ : Mem} {a : AV} {ls : List (Option AV)} (h : LvO μ (some a :: ls)) : LvV μ a := h a List.mem_cons_self
theorem LvO.cons {μ : Mem} {a : AV} {ls : List (Option AV)} (ha : LvV μ a) (h : LvO μ ls) : LvO μ (some a :: ls) := fun v hv => by
  rcases List.mem_cons.mp hv with e | e
  · cases e; exact ha
  · exact h v e
theorem LvO.at {μ : Mem} {ls : List (Option AV)} (h : LvO μ ls) {i : Nat} {v : AV} (hi : ls[i]? = some (some v)) : LvV μ v := h v (List.mem_of_getElem? hi)
theorem LvO.set {μ : Mem} {ls : List (Option AV)} (h : LvO μ ls) {v : AV} (hv : LvV μ v) (i : Nat) : LvO μ (ls.set i (some v)) := fun w hw => by
  rcases List.mem_or_eq_of_mem_set hw with e | e
  · exact h w e
  · cases e; exact hv
/-! what the heap holds -/
abbrev Gx : Type := va_G × (Nat → ClassId) × Heap × (Nat → Nat) × (Nat → Nat)
abbrev gH (Γ : Gx) : Heap := Γ.2.2.1
/-- an object: its class, its monitor free, its fields -/
def OB (o : Nat) (cC : ClassId) (N : Nat) (iS : Nat → Nat) (H : Heap) (V : Nat → Value) : Prop :=
  ∃ cell : Cell, H[o]? = some cell ∧ cell.cls = cC ∧ cell.vm = .none ∧ (cell.monitor.owner = none ∧ cell.monitor.count = 0) ∧ ∀ k, k < N → cell.slots[iS k]? = some (V k)
def fv (ad : Ad) (μ : Mem) (p i ci k : Nat) : Value := if (tyT ci k).isReference = true then cr ad (gP μ p i k) else .int (gI μ p i k)
def Cel (Γ : Gx) (ad : Ad) (μ : Mem) (H : Heap) (p i : Nat) : Prop := match kd p with
  | .inl ci => ∃ r, cl[ci]? = some r ∧ OB (ad p i) (Γ.1.1 ci) r.2.2 (Γ.1.2 ci) H (fv ad μ p i ci)
  | .inr (t, 0) => H[ad p i]? = some (arrV (Γ.2.1 t) (gL μ p i) (fun j => .int (gI μ p i j)))
  | .inr (t, 1) => H[ad p i]? = some (arrV (Γ.2.1 t) (gL μ p i) (fun j => cr ad (gP μ p i j)))
  | .inr (t, 2) => H[ad p i]? = some (arrV (Γ.2.1 t) (gL μ p i) (fun j => .long (gJ μ p i j)))
  | .inr (t, _) => ∃ cell : Cell, H[ad p i]? = some cell ∧ cell.cls = Γ.1.1 t ∧ cell.vm = .none ∧ (cell.monitor.owner = none ∧ cell.monitor.count = 0) ∧ cell.slots.size = 6
/-- pool 0: the String constants, their bytes, then the old heap -/
def ad0 (Γ : Gx) (i : Nat) : Nat := if i < 54 then Γ.2.2.2.1 i else if i < 108 then Γ.2.2.2.2 (i - 54) else i - 108
def Rel (Γ : Gx) (ad : Ad) (μ : Mem) (H : Heap) : Prop :=
  ((∀ q, q < (gH Γ).size → H[q]? = (gH Γ)[q]?) ∧ (gH Γ).size ≤ H.size) ∧ (gC μ 0 = Γ.2.2.2.2 54 ∧ ∀ i, ad 0 i = ad0 Γ i) ∧
  (∀ p i, p ≠ 0 → i < gC μ p → (gH Γ).size ≤ ad p i ∧ Cel Γ ad μ H p i) ∧
  (∀ p i p' i', p ≠ 0 → p' ≠ 0 → i < gC μ p → i' < gC μ p' → ad p i = ad p' i' → p = p' ∧ i = i') ∧
  (∀ p i k h, gP μ p i k = some h → Lv μ h) ∧ (∀ p i k, gC μ p ≤ i → gI μ p i k = 0 ∧ gP μ p i k = none)
/-! the words that ride along -/
def rideW (w : Cond) : Bool := goodWord w || (match w with
  | .fieldLinkNest .. => true
  | .methodLinkNest .. => true
  | .declares .. => true
  | .castable .. => true
  | _ => false)
def XW (U : State) : Prop := (∀ w ∈ lw_tbl, rideW w = true → ∀ A : Array Value, w.before A U = true) ∧ (∀ C, Cond.arrayOver (.object C) ∈ lw_tbl → va_AO C U)
def tysL (cA : Nat → ClassId) : List (ClassId × FieldType) := (List.range 13).map (fun t => (cA t, tyA.getD t .int))
abbrev Cx : Type := Program × Launch × Env × Room × State × MethodId × Array Value × List Frame × Method × Code
abbrev MM : Type := Nat × Option FieldType × List (Nat × Nat × Nat × Nat) × Bool × Room
abbrev Res : Type := (Option AV) ⊕ (Nat × Nat)
abbrev Ex : Type := Gx × Cx × Mem × Ad × (Res → Mem → Prop)
abbrev cP (E : Ex) : Program := E.2.1.1
abbrev cLa (E : Ex) : Launch := E.2.1.2.1
abbrev cEn (E : Ex) : Env := E.2.1.2.2.1
abbrev cR (E : Ex) : Room := E.2.1.2.2.2.1
abbrev cS (E : Ex) : State := E.2.1.2.2.2.2.1
abbrev cM (E : Ex) : MethodId := E.2.1.2.2.2.2.2.1
abbrev cAr (E : Ex) : Array Value := E.2.1.2.2.2.2.2.2.1
abbrev cB (E : Ex) : List Frame := E.2.1.2.2.2.2.2.2.2.1
abbrev cMe (E : Ex) : Method := E.2.1.2.2.2.2.2.2.2.2.1
abbrev cC (E : Ex) : Code := E.2.1.2.2.2.2.2.2.2.2.2
abbrev eμ (E : Ex) : Mem := E.2.2.1
abbrev eA (E : Ex) : Ad := E.2.2.2.1
abbrev eQ (E : Ex) : Res → Mem → Prop := E.2.2.2.2
/-- the start state of a method's run: what the tables say there -/
def nA : Nat → Prop := fun _ => False
def strOK (Γ : Gx) (i : Nat) (own : String) (k : Nat) (tx : String) (by_ : List Int32) (U : State) : Prop :=
  vk_R own k tx (Γ.2.2.2.1 i) U ∧ va_O "java/lang/String" (Γ.2.2.2.1 i) nA U (gH Γ) ∧ va_OF "java/lang/String" "coder" "B" (.int 0) (Γ.2.2.2.1 i) nA U (gH Γ) ∧
  va_OF "java/lang/String" "value" "[B" (.ref (Γ.2.2.2.2 i)) (Γ.2.2.2.1 i) nA U (gH Γ) ∧ va_T .byte (Γ.2.2.2.2 i) by_.length (fun j => .int (by_.getD j 0)) nA U (gH Γ)
def stRef (Γ : Gx) (C n d : String) (U : State) : Prop := ∃ r : Option Nat, (∀ a, r = some a → a + 108 < Γ.2.2.2.2 54) ∧ va_Z C n d (va_rf r) nA U (gH Γ)
def atH (H : Heap) (U : State) : State := { U with heap := H }
def lsL : List Cond := [.laysStatic "java/lang/Throwable" "UNASSIGNED_STACK" "[Ljava/lang/StackTraceElement;", .laysStatic "java/lang/Throwable" "SUPPRESSED_SENTINEL" "Ljava/util/List;"]
/-- what is known of the old heap: String constants, static fields; what cannot be cast -/
def SX (Γ : Gx) (U : State) : Prop :=
  (∀ (i : Nat) (q : String × Nat × String) (b : List Int32), strL[i]? = some q → strB[i]? = some b → strOK Γ i q.1 q.2.1 q.2.2 b U) ∧
  va_Z "java/lang/String" "COMPACT_STRINGS" "Z" (.int 1) nA U (gH Γ) ∧
  stRef Γ "java/lang/Throwable" "UNASSIGNED_STACK" "[Ljava/lang/StackTraceElement;" U ∧ stRef Γ "java/lang/Throwable" "SUPPRESSED_SENTINEL" "Ljava/util/List;" U ∧
  stRef Γ "jdk/internal/util/Preconditions" "SIOOBE_FORMATTER" "Ljava/util/function/BiFunction;" U ∧ 108 ≤ Γ.2.2.2.2 54 ∧ (∀ a ∈ exN, ∀ b ∈ exN, a ≠ b → va_Nc a b U) ∧ (∀ w ∈ lsL, w.before #[] (atH (gH Γ) U) = true)
def KK (Γ : Gx) (s : State) : Prop := XW s ∧ va_K Γ.1 cl (tysL Γ.2.1) s ∧ SX Γ s ∧ (∀ q, q < (gH Γ).size → s.heap[q]? = (gH Γ)[q]?)
def Mx (own : String) (cc : ByteArray) (mm : MM) (E : Ex) : Prop :=
  (cP E).tables.exec = Jvm.exec ∧ (cC E).code = cc ∧ (cS E).vm.findClass own = some (cM E).cls ∧ (cC E).maxLocals = mm.1 ∧ (cMe E).sig.returnType = mm.2.1 ∧
  (cC E).exceptionTable.toList.map (fun h => (h.startPc, h.endPc, h.handlerPc, h.catchType)) = mm.2.2.1 ∧ (mm.2.2.2.1 = true → (cMe E).name = "<init>") ∧ cR E = mm.2.2.2.2 ∧
  (cMe E).locks = false ∧ (cLa E).stackTraces = false ∧ KK E.1 (cS E)
/-- since the method's start the address of no live cell has changed -/
def Xt (μ0 : Mem) (ad0 ad : Ad) : Prop := ∀ p i, i < gC μ0 p → ad p i = ad0 p i
/-- the locals -/
def Lc (nL : Nat) (ad : Ad) (ls : List (Option AV)) (la : Array Slot) : Prop := lv_has la nL [] ∧ ls.length ≤ nL ∧ ∀ (i : Nat) (v : AV), ls[i]? = some (some v) → la[i]? = some (Slot.val (cv ad v)) ∧ (cv ad v).category = 1
def RR (ad : Ad) (μ : Mem) (r : Res) (o : Outcome) : Prop := match r with
  | .inl none => o = .returned none
  | .inl (some v) => o = .returned (some (cv ad v)) ∧ LvV μ v
  | .inr h => o = .threw (ad h.1 h.2) ∧ Lv μ h
def FinE (E : Ex) : State → Prop := fun t => ∃ (o : Outcome) (L : List Loc), t.status = .running ∧ Ended t (cB E) o ∧ (cS E).WarmedH t.vm ∧ (cS E).sameButNew ({ t with vm := (cS E).vm } : State) L (cR E).cells (cR E).slots ∧
  (∀ q ∈ L, (gH E.1).size ≤ q.base) ∧ ∃ (r : Res) (μ : Mem) (ad : Ad), Rel E.1 ad μ t.heap ∧ Xt (eμ E) (eA E) ad ∧ Mn (eμ E) μ ∧ RR ad μ r o ∧ eQ E r μ
abbrev Wc (E : Ex) (H : Heap) (locs : List Loc) (k n : Nat) (g : JFrame) : Prop := W (cP E) (cLa E) (cEn E) (cR E) (cS E) (cM E) (cAr E) (cB E) (cMe E) (cC E) H locs k n (FinE E) g
def Hy (own : String) (cc : ByteArray) (mm : MM) (E : Ex) (μ : Mem) (ls : List (Option AV)) (st : List AV) (ad : Ad) (H : Heap) (locs : List Loc) (la : Array Slot) : Prop :=
  Mx own cc mm E ∧ (Mn (eμ E) μ ∧ Xt (eμ E) (eA E) ad) ∧ (∀ q ∈ locs, (gH E.1).size ≤ q.base) ∧ Rel E.1 ad μ H ∧ LvO μ ls ∧ LvL μ st ∧ Lc mm.1 ad ls la
def Z (own : String) (cc : ByteArray) (mm : MM) (E : Ex) (k n : Nat) (μ : Mem) (pc : Nat) (ls : List (Option AV)) (st : List AV) : Prop :=
  ∀ (ad : Ad) (H : Heap) (locs : List Loc) (la : Array Slot), Hy own cc mm E μ ls st ad H locs la → Wc E H locs k n (F0 (cM E) pc la (st.map (cv ad)))
