/-! evidence: what pool entries name; what calls run: J0 J1 J2 J4 J5 J6 -/
set_option maxRecDepth 100000
theorem fl_J0_7_X3 : FL RJ0 7 2 0 false := ⟨_, rfl, Nat.le_of_ble_eq_true rfl, rfl, Or.inl q208⟩
theorem fl_J0_7_J3 : FL RJ0 7 16 0 false := ⟨_, rfl, Nat.le_of_ble_eq_true rfl, rfl, Or.inl q208⟩
theorem fl_J0_7_J8 : FL RJ0 7 17 0 false := ⟨_, rfl, Nat.le_of_ble_eq_true rfl, rfl, Or.inl q208⟩
theorem fl_J0_7_J9 : FL RJ0 7 18 0 false := ⟨_, rfl, Nat.le_of_ble_eq_true rfl, rfl, Or.inl q208⟩
theorem fl_J0_7_J12 : FL RJ0 7 19 0 false := ⟨_, rfl, Nat.le_of_ble_eq_true rfl, rfl, Or.inl q208⟩
theorem fl_J0_7_J13 : FL RJ0 7 20 0 false := ⟨_, rfl, Nat.le_of_ble_eq_true rfl, rfl, Or.inl q208⟩
theorem fl_J0_17_X3 : FL RJ0 17 2 1 false := ⟨_, rfl, Nat.le_of_ble_eq_true rfl, rfl, Or.inl q209⟩
theorem fl_J0_17_J3 : FL RJ0 17 16 1 false := ⟨_, rfl, Nat.le_of_ble_eq_true rfl, rfl, Or.inl q209⟩
theorem fl_J0_17_J8 : FL RJ0 17 17 1 false := ⟨_, rfl, Nat.le_of_ble_eq_true rfl, rfl, Or.inl q209⟩
theorem fl_J0_17_J9 : FL RJ0 17 18 1 false := ⟨_, rfl, Nat.le_of_ble_eq_true rfl, rfl, Or.inl q209⟩
theorem fl_J0_17_J12 : FL RJ0 17 19 1 false := ⟨_, rfl, Nat.le_of_ble_eq_true rfl, rfl, Or.inl q209⟩
theorem fl_J0_17_J13 : FL RJ0 17 20 1 false := ⟨_, rfl, Nat.le_of_ble_eq_true rfl, rfl, Or.inl q209⟩
theorem fl_J0_24_X3 : FL RJ0 24 2 2 false := ⟨_, rfl, Nat.le_of_ble_eq_true rfl, rfl, Or.inl q210⟩
theorem fl_J0_24_J3 : FL RJ0 24 16 2 false := ⟨_, rfl, Nat.le_of_ble_eq_true rfl, rfl, Or.inl q210⟩
theorem fl_J0_24_J8 : FL RJ0 24 17 2 false := ⟨_, rfl, Nat.le_of_ble_eq_true rfl, rfl, Or.inl q210⟩
theorem fl_J0_24_J9 : FL RJ0 24 18 2 false := ⟨_, rfl, Nat.le_of_ble_eq_true rfl, rfl, Or.inl q210⟩
theorem fl_J0_24_J12 : FL RJ0 24 19 2 false := ⟨_, rfl, Nat.le_of_ble_eq_true rfl, rfl, Or.inl q210⟩
theorem fl_J0_24_J13 : FL RJ0 24 20 2 false := ⟨_, rfl, Nat.le_of_ble_eq_true rfl, rfl, Or.inl q210⟩
theorem fl_J0_31_X3 : FL RJ0 31 2 3 false := ⟨_, rfl, Nat.le_of_ble_eq_true rfl, rfl, Or.inl q207⟩
theorem fl_J0_31_J3 : FL RJ0 31 16 3 false := ⟨_, rfl, Nat.le_of_ble_eq_true rfl, rfl, Or.inl q207⟩
theorem fl_J0_31_J8 : FL RJ0 31 17 3 false := ⟨_, rfl, Nat.le_of_ble_eq_true rfl, rfl, Or.inl q207⟩
theorem fl_J0_31_J9 : FL RJ0 31 18 3 false := ⟨_, rfl, Nat.le_of_ble_eq_true rfl, rfl, Or.inl q207⟩
theorem fl_J0_31_J12 : FL RJ0 31 19 3 false := ⟨_, rfl, Nat.le_of_ble_eq_true rfl, rfl, Or.inl q207⟩
theorem fl_J0_31_J13 : FL RJ0 31 20 3 false := ⟨_, rfl, Nat.le_of_ble_eq_true rfl, rfl, Or.inl q207⟩
theorem co_J0_1 : CO RJ0 1 := ⟨q172, q112, q113⟩
theorem md_J0_init (rm : Room) : MD yJ0_init cJ0_init (1, none, [], true, rm) := ⟨Or.inl ⟨q171, rfl⟩, (by decide +kernel), ⟨by decide, by decide⟩, fun _ => rfl⟩
theorem md_J0_init_2 (rm : Room) : MD yJ0_init_2 cJ0_init_2 (5, none, [], true, rm) := ⟨Or.inl ⟨q203, rfl⟩, (by decide +kernel), ⟨by decide, by decide⟩, fun _ => rfl⟩
theorem md_J0_init_3 (rm : Room) : MD yJ0_init_3 cJ0_init_3 (2, none, [], true, rm) := ⟨Or.inl ⟨q713, rfl⟩, (by decide +kernel), ⟨by decide, by decide⟩, fun _ => rfl⟩
theorem ci_J1_1 : CI RJ1 1 yJ0_init 0 := ⟨Or.inl q465, q170, rfl, ⟨_, _, q171⟩, by decide +kernel⟩
theorem ci_J1_7 : CI RJ1 7 yJ0_init_3 1 := ⟨Or.inl q711, q712, rfl, ⟨_, _, q713⟩, by decide +kernel⟩
theorem ci_J1_16 : CI RJ1 16 yJ0_init_2 4 := ⟨Or.inl q201, q202, rfl, ⟨_, _, q203⟩, by decide +kernel⟩
theorem md_J1_init (rm : Room) : MD yJ1_init cJ1_init (5, none, [], true, rm) := ⟨Or.inl ⟨q200, rfl⟩, (by decide +kernel), ⟨by decide, by decide⟩, fun _ => rfl⟩
theorem md_J1_init_2 (rm : Room) : MD yJ1_init_2 cJ1_init_2 (1, none, [], true, rm) := ⟨Or.inl ⟨q464, rfl⟩, (by decide +kernel), ⟨by decide, by decide⟩, fun _ => rfl⟩
theorem md_J1_init_3 (rm : Room) : MD yJ1_init_3 cJ1_init_3 (2, none, [], true, rm) := ⟨Or.inl ⟨q710, rfl⟩, (by decide +kernel), ⟨by decide, by decide⟩, fun _ => rfl⟩
theorem ci_J2_1 : CI RJ2 1 yJ1_init_2 0 := ⟨Or.inl q462, q463, rfl, ⟨_, _, q464⟩, by decide +kernel⟩
theorem ci_J2_7 : CI RJ2 7 yJ1_init_3 1 := ⟨Or.inl q708, q709, rfl, ⟨_, _, q710⟩, by decide +kernel⟩
theorem ci_J2_16 : CI RJ2 16 yJ1_init 4 := ⟨Or.inl q198, q199, rfl, ⟨_, _, q200⟩, by decide +kernel⟩
theorem md_J2_init (rm : Room) : MD yJ2_init cJ2_init (5, none, [], true, rm) := ⟨Or.inl ⟨q197, rfl⟩, (by decide +kernel), ⟨by decide, by decide⟩, fun _ => rfl⟩
theorem md_J2_init_2 (rm : Room) : MD yJ2_init_2 cJ2_init_2 (1, none, [], true, rm) := ⟨Or.inl ⟨q461, rfl⟩, (by decide +kernel), ⟨by decide, by decide⟩, fun _ => rfl⟩
theorem md_J2_init_3 (rm : Room) : MD yJ2_init_3 cJ2_init_3 (2, none, [], true, rm) := ⟨Or.inl ⟨q707, rfl⟩, (by decide +kernel), ⟨by decide, by decide⟩, fun _ => rfl⟩
theorem cs_J4_495 : CS RJ4 495 yJ5_charAt 2 := ⟨q510, q511, q84, by decide +kernel⟩
theorem cs_J4_1059 : CS RJ4 1059 yJ6_checkIndex 3 := ⟨q518, q519, q85, by decide +kernel⟩
theorem cz_J4_335 : CZ RJ4 335 yJ4_coder 0 := ⟨q496, q497, q498, by decide +kernel⟩
theorem cz_J4_492 : CZ RJ4 492 yJ4_isLatin1 0 := ⟨q506, q507, q508, by decide +kernel⟩
theorem md_J4_length (rm : Room) : MD yJ4_length cJ4_length (1, (some .int), [], false, rm) := ⟨Or.inl ⟨q495, rfl⟩, (by decide +kernel), ⟨by decide, by decide⟩, fun h => by cases h⟩
theorem md_J4_coder (rm : Room) : MD yJ4_coder cJ4_coder (1, (some .byte), [], false, rm) := ⟨Or.inl ⟨q499, rfl⟩, (by decide +kernel), ⟨by decide, by decide⟩, fun h => by cases h⟩
theorem md_J4_charAt (rm : Room) : MD yJ4_charAt cJ4_charAt (2, (some .char), [], false, rm) := ⟨Or.inl ⟨q505, rfl⟩, (by decide +kernel), ⟨by decide, by decide⟩, fun h => by cases h⟩
theorem md_J4_isLatin1 (rm : Room) : MD yJ4_isLatin1 cJ4_isLatin1 (1, (some .boolean), [], false, rm) := ⟨Or.inl ⟨q509, rfl⟩, (by decide +kernel), ⟨by decide, by decide⟩, fun h => by cases h⟩
theorem md_J4_checkIndex (rm : Room) : MD yJ4_checkIndex cJ4_checkIndex (2, none, [], false, rm) := ⟨Or.inl ⟨q515, rfl⟩, (by decide +kernel), ⟨by decide, by decide⟩, fun h => by cases h⟩
theorem cs_J5_9 : CS RJ5 9 yJ4_checkIndex 2 := ⟨q513, q514, q83, by decide +kernel⟩
theorem md_J5_charAt (rm : Room) : MD yJ5_charAt cJ5_charAt (2, (some .char), [], false, rm) := ⟨Or.inl ⟨q512, rfl⟩, (by decide +kernel), ⟨by decide, by decide⟩, fun h => by cases h⟩
theorem md_J6_checkIndex (rm : Room) : MD yJ6_checkIndex cJ6_checkIndex (3, (some .int), [], false, rm) := ⟨Or.inl ⟨q520, rfl⟩, (by decide +kernel), ⟨by decide, by decide⟩, fun h => by cases h⟩
