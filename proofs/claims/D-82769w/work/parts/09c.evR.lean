/-! evidence: what pool entries name; what calls run: X2 X3 X4 X6 X7 X8 X9 X10 X11 X12 X13 X14 X15 X16 X17 -/
set_option maxRecDepth 100000
theorem fl_X2_9 : FL RX2 9 1 0 true := ⟨_, rfl, Nat.le_of_ble_eq_true rfl, rfl, Or.inl q222⟩
theorem ff_X2_9 : FF RX2 9 1 0 := ⟨_, rfl, Nat.le_of_ble_eq_true rfl, rfl, rfl, q222⟩
theorem fl_X2_29 : FL RX2 29 1 1 true := ⟨_, rfl, Nat.le_of_ble_eq_true rfl, rfl, Or.inl q224⟩
theorem ff_X2_29 : FF RX2 29 1 1 := ⟨_, rfl, Nat.le_of_ble_eq_true rfl, rfl, rfl, q224⟩
theorem fl_X2_49 : FL RX2 49 1 2 true := ⟨_, rfl, Nat.le_of_ble_eq_true rfl, rfl, Or.inl q225⟩
theorem ff_X2_49 : FF RX2 49 1 2 := ⟨_, rfl, Nat.le_of_ble_eq_true rfl, rfl, rfl, q225⟩
theorem fl_X2_70 : FL RX2 70 1 3 true := ⟨_, rfl, Nat.le_of_ble_eq_true rfl, rfl, Or.inl q226⟩
theorem ff_X2_70 : FF RX2 70 1 3 := ⟨_, rfl, Nat.le_of_ble_eq_true rfl, rfl, rfl, q226⟩
theorem fl_X2_75 : FL RX2 75 1 4 true := ⟨_, rfl, Nat.le_of_ble_eq_true rfl, rfl, Or.inl q227⟩
theorem ff_X2_75 : FF RX2 75 1 4 := ⟨_, rfl, Nat.le_of_ble_eq_true rfl, rfl, rfl, q227⟩
theorem fl_X2_79 : FL RX2 79 1 5 true := ⟨_, rfl, Nat.le_of_ble_eq_true rfl, rfl, Or.inl q228⟩
theorem ff_X2_79 : FF RX2 79 1 5 := ⟨_, rfl, Nat.le_of_ble_eq_true rfl, rfl, rfl, q228⟩
theorem fl_X2_85 : FL RX2 85 1 6 true := ⟨_, rfl, Nat.le_of_ble_eq_true rfl, rfl, Or.inl q230⟩
theorem ff_X2_85 : FF RX2 85 1 6 := ⟨_, rfl, Nat.le_of_ble_eq_true rfl, rfl, rfl, q230⟩
theorem fl_X2_89 : FL RX2 89 2 6 false := ⟨_, rfl, Nat.le_of_ble_eq_true rfl, rfl, Or.inr ⟨_, q204⟩⟩
theorem fl_X2_93 : FL RX2 93 1 9 false := ⟨_, rfl, Nat.le_of_ble_eq_true rfl, rfl, Or.inl q233⟩
theorem fl_X2_96 : FL RX2 96 1 8 false := ⟨_, rfl, Nat.le_of_ble_eq_true rfl, rfl, Or.inl q232⟩
theorem fl_X2_118 : FL RX2 118 1 10 false := ⟨_, rfl, Nat.le_of_ble_eq_true rfl, rfl, Or.inl q234⟩
theorem fl_X2_176 : FL RX2 176 1 11 false := ⟨_, rfl, Nat.le_of_ble_eq_true rfl, rfl, Or.inl q235⟩
theorem nw_X2_73 : NW RX2 73 5 3 := ⟨_, _, rfl, q145, q544, q87, by decide⟩
theorem nw_X2_82 : NW RX2 82 2 7 := ⟨_, _, rfl, q147, q148, q79, by decide⟩
theorem nw_X2_125 : NW RX2 125 9 3 := ⟨_, _, rfl, q627, q628, q92, by decide⟩
theorem nw_X2_151 : NW RX2 151 8 3 := ⟨_, _, rfl, q593, q594, q91, by decide⟩
theorem nw_X2_166 : NW RX2 166 7 1 := ⟨_, _, rfl, q582, q583, q90, by decide⟩
theorem nw_X2_171 : NW RX2 171 6 3 := ⟨_, _, rfl, q563, q564, q89, by decide⟩
theorem cs_X2_179 : CS RX2 179 yX2_turn 1 := ⟨q760, q761, q75, by decide +kernel⟩
theorem cv_X2_99 : CV RX2 99 1 yX2_sign 0 := ⟨_, rfl, q472, q474, qs5, by decide +kernel⟩
theorem cz_X2_103 : CZ RX2 103 yJ4_length 0 := ⟨q492, q493, q494, by decide +kernel⟩
theorem cz_X2_106 : CZ RX2 106 yJ4_charAt 1 := ⟨q502, q503, q504, by decide +kernel⟩
theorem cv_X2_110 : CV RX2 110 1 yX2_takes 1 := ⟨_, rfl, q488, q490, qs9, by decide +kernel⟩
theorem cv_X2_114 : CV RX2 114 1 yX2_fail 1 := ⟨_, rfl, q476, q478, qs6, by decide +kernel⟩
theorem cv_X2_121 : CV RX2 121 1 yX2_clause 0 := ⟨_, rfl, q480, q482, qs7, by decide +kernel⟩
theorem cv_X2_130 : CV RX2 130 1 yX2_one 1 := ⟨_, rfl, q484, q486, qs8, by decide +kernel⟩
theorem cv_X2_134 : CV RX2 134 1 yX2_number 0 := ⟨_, rfl, q540, q542, qs10, by decide +kernel⟩
theorem cv_X2_139 : CV RX2 139 1 yX2_cond 0 := ⟨_, rfl, q546, q548, qs11, by decide +kernel⟩
theorem cv_X2_146 : CV RX2 146 1 yX2_all 0 := ⟨_, rfl, q550, q552, qs12, by decide +kernel⟩
theorem cv_X2_156 : CV RX2 156 1 yX2_atom 0 := ⟨_, rfl, q554, q556, qs13, by decide +kernel⟩
theorem cv_X2_163 : CV RX2 163 1 yX2_fact 0 := ⟨_, rfl, q559, q561, qs14, by decide +kernel⟩
theorem co_X2_3 : CO RX2 3 := ⟨q119, q112, q113⟩
theorem ci_X2_84 : CI RX2 84 yX3_init 0 := ⟨Or.inl q192, q193, rfl, ⟨_, _, q194⟩, by decide +kernel⟩
theorem ci_X2_127 : CI RX2 127 yX11_init 3 := ⟨Or.inl q629, q630, rfl, ⟨_, _, q631⟩, by decide +kernel⟩
theorem ci_X2_143 : CI RX2 143 yX6_init 3 := ⟨Or.inl q610, q611, rfl, ⟨_, _, q612⟩, by decide +kernel⟩
theorem ci_X2_153 : CI RX2 153 yX10_init 3 := ⟨Or.inl q595, q596, rfl, ⟨_, _, q597⟩, by decide +kernel⟩
theorem ci_X2_168 : CI RX2 168 yX9_init 1 := ⟨Or.inl q584, q585, rfl, ⟨_, _, q586⟩, by decide +kernel⟩
theorem ci_X2_173 : CI RX2 173 yX8_init 3 := ⟨Or.inl q565, q566, rfl, ⟨_, _, q567⟩, by decide +kernel⟩
theorem md_X2_init (rm : Room) : MD yX2_init cX2_init (1, none, [], true, rm) := ⟨Or.inl ⟨q118, rfl⟩, plainFor_of_name (by decide), ⟨by decide, by decide⟩, fun _ => rfl⟩
theorem md_X2_law (rm : Room) : MD yX2_law cX2_law (6, (some (.object "PassportOffice$Law")), [], false, rm) := ⟨Or.inl ⟨q471, rfl⟩, plainFor_of_name (by decide), ⟨by decide, by decide⟩, fun h => by cases h⟩
theorem md_X2_sign (rm : Room) : MD yX2_sign cX2_sign (1, (some .int), [], false, rm) := ⟨Or.inl ⟨q475, rfl⟩, plainFor_of_name (by decide), ⟨by decide, by decide⟩, fun h => by cases h⟩
theorem md_X2_fail (rm : Room) : MD yX2_fail cX2_fail (2, none, [], false, rm) := ⟨Or.inl ⟨q479, rfl⟩, plainFor_of_name (by decide), ⟨by decide, by decide⟩, fun h => by cases h⟩
theorem md_X2_clause (rm : Room) : MD yX2_clause cX2_clause (3, (some (.object "PassportOffice$Clause")), [], false, rm) := ⟨Or.inl ⟨q483, rfl⟩, plainFor_of_name (by decide), ⟨by decide, by decide⟩, fun h => by cases h⟩
theorem md_X2_one (rm : Room) : MD yX2_one cX2_one (3, (some .int), [], false, rm) := ⟨Or.inl ⟨q487, rfl⟩, plainFor_of_name (by decide), ⟨by decide, by decide⟩, fun h => by cases h⟩
theorem md_X2_takes (rm : Room) : MD yX2_takes cX2_takes (6, (some .boolean), [], false, rm) := ⟨Or.inl ⟨q491, rfl⟩, plainFor_of_name (by decide), ⟨by decide, by decide⟩, fun h => by cases h⟩
theorem md_X2_number (rm : Room) : MD yX2_number cX2_number (4, (some .int), [], false, rm) := ⟨Or.inl ⟨q543, rfl⟩, plainFor_of_name (by decide), ⟨by decide, by decide⟩, fun h => by cases h⟩
theorem md_X2_cond (rm : Room) : MD yX2_cond cX2_cond (2, (some (.object "PassportOffice$Cond")), [], false, rm) := ⟨Or.inl ⟨q549, rfl⟩, plainFor_of_name (by decide), ⟨by decide, by decide⟩, fun h => by cases h⟩
theorem md_X2_all (rm : Room) : MD yX2_all cX2_all (2, (some (.object "PassportOffice$Cond")), [], false, rm) := ⟨Or.inl ⟨q553, rfl⟩, plainFor_of_name (by decide), ⟨by decide, by decide⟩, fun h => by cases h⟩
theorem md_X2_atom (rm : Room) : MD yX2_atom cX2_atom (5, (some (.object "PassportOffice$Cond")), [], false, rm) := ⟨Or.inl ⟨q557, rfl⟩, plainFor_of_name (by decide), ⟨by decide, by decide⟩, fun h => by cases h⟩
theorem md_X2_fact (rm : Room) : MD yX2_fact cX2_fact (3, (some (.object "PassportOffice$Cond")), [], false, rm) := ⟨Or.inl ⟨q562, rfl⟩, plainFor_of_name (by decide), ⟨by decide, by decide⟩, fun h => by cases h⟩
theorem md_X2_name (rm : Room) : MD yX2_name cX2_name (5, (some .int), [], false, rm) := ⟨Or.inl ⟨q759, rfl⟩, plainFor_of_name (by decide), ⟨by decide, by decide⟩, fun h => by cases h⟩
theorem md_X2_turn (rm : Room) : MD yX2_turn cX2_turn (1, (some .int), [], false, rm) := ⟨Or.inl ⟨q762, rfl⟩, plainFor_of_name (by decide), ⟨by decide, by decide⟩, fun h => by cases h⟩
theorem ci_X3_1 : CI RX3 1 yJ2_init 4 := ⟨Or.inl q195, q196, rfl, ⟨_, _, q197⟩, by decide +kernel⟩
theorem md_X3_init (rm : Room) : MD yX3_init cX3_init (1, none, [], true, rm) := ⟨Or.inl ⟨q194, rfl⟩, plainFor_of_name (by decide), ⟨by decide, by decide⟩, fun _ => rfl⟩
theorem fl_X4_11 : FL RX4 11 3 0 true := ⟨_, rfl, Nat.le_of_ble_eq_true rfl, rfl, Or.inl q277⟩
theorem ff_X4_11 : FF RX4 11 3 0 := ⟨_, rfl, Nat.le_of_ble_eq_true rfl, rfl, rfl, q277⟩
theorem fl_X4_22 : FL RX4 22 3 1 false := ⟨_, rfl, Nat.le_of_ble_eq_true rfl, rfl, Or.inl q279⟩
theorem fl_X4_26 : FL RX4 26 3 2 false := ⟨_, rfl, Nat.le_of_ble_eq_true rfl, rfl, Or.inl q281⟩
theorem fl_X4_29 : FL RX4 29 3 3 false := ⟨_, rfl, Nat.le_of_ble_eq_true rfl, rfl, Or.inl q283⟩
theorem fl_X4_32 : FL RX4 32 3 4 false := ⟨_, rfl, Nat.le_of_ble_eq_true rfl, rfl, Or.inl q285⟩
theorem fl_X4_35 : FL RX4 35 3 5 false := ⟨_, rfl, Nat.le_of_ble_eq_true rfl, rfl, Or.inl q287⟩
theorem nw_X4_9 : NW RX4 9 13 8 := ⟨_, _, rfl, q275, q946, q102, by decide⟩
theorem cv_X4_18 : CV RX4 18 13 yX15_be 1 := ⟨_, rfl, q1240, q1241, q1242, by decide +kernel⟩
theorem co_X4_3 : CO RX4 3 := ⟨q274, q112, q113⟩
theorem ci_X4_17 : CI RX4 17 yX15_init 0 := ⟨Or.inr ⟨_, q1239⟩, q948, rfl, ⟨_, _, q949⟩, by decide +kernel⟩
theorem md_X4_init (rm : Room) : MD yX4_init cX4_init (1, none, [], true, rm) := ⟨Or.inl ⟨q273, rfl⟩, plainFor_of_name (by decide), ⟨by decide, by decide⟩, fun _ => rfl⟩
theorem md_X4_be (rm : Room) : MD yX4_be cX4_be (4, none, [], false, rm) := ⟨Or.inl ⟨q1238, rfl⟩, plainFor_of_name (by decide), ⟨by decide, by decide⟩, fun h => by cases h⟩
theorem fl_X6_7 : FL RX6 7 5 0 true := ⟨_, rfl, Nat.le_of_ble_eq_true rfl, rfl, Or.inl q614⟩
theorem ff_X6_7 : FF RX6 7 5 0 := ⟨_, rfl, Nat.le_of_ble_eq_true rfl, rfl, rfl, q614⟩
theorem fl_X6_13 : FL RX6 13 5 1 true := ⟨_, rfl, Nat.le_of_ble_eq_true rfl, rfl, Or.inl q616⟩
theorem ff_X6_13 : FF RX6 13 5 1 := ⟨_, rfl, Nat.le_of_ble_eq_true rfl, rfl, rfl, q616⟩
theorem fl_X6_16 : FL RX6 16 5 2 true := ⟨_, rfl, Nat.le_of_ble_eq_true rfl, rfl, Or.inl q618⟩
theorem ff_X6_16 : FF RX6 16 5 2 := ⟨_, rfl, Nat.le_of_ble_eq_true rfl, rfl, rfl, q618⟩
theorem co_X6_1 : CO RX6 1 := ⟨q613, q112, q113⟩
theorem md_X6_init (rm : Room) : MD yX6_init cX6_init (4, none, [], true, rm) := ⟨Or.inl ⟨q612, rfl⟩, plainFor_of_name (by decide), ⟨by decide, by decide⟩, fun _ => rfl⟩
theorem co_X7_1 : CO RX7 1 := ⟨q571, q112, q113⟩
theorem md_X7_init (rm : Room) : MD yX7_init cX7_init (1, none, [], true, rm) := ⟨Or.inl ⟨q570, rfl⟩, plainFor_of_name (by decide), ⟨by decide, by decide⟩, fun _ => rfl⟩
theorem fl_X8_7 : FL RX8 7 6 0 true := ⟨_, rfl, Nat.le_of_ble_eq_true rfl, rfl, Or.inl q572⟩
theorem ff_X8_7 : FF RX8 7 6 0 := ⟨_, rfl, Nat.le_of_ble_eq_true rfl, rfl, rfl, q572⟩
theorem fl_X8_13 : FL RX8 13 6 2 true := ⟨_, rfl, Nat.le_of_ble_eq_true rfl, rfl, Or.inl q574⟩
theorem ff_X8_13 : FF RX8 13 6 2 := ⟨_, rfl, Nat.le_of_ble_eq_true rfl, rfl, rfl, q574⟩
theorem fl_X8_17 : FL RX8 17 6 1 true := ⟨_, rfl, Nat.le_of_ble_eq_true rfl, rfl, Or.inl q573⟩
theorem ff_X8_17 : FF RX8 17 6 1 := ⟨_, rfl, Nat.le_of_ble_eq_true rfl, rfl, rfl, q573⟩
theorem ci_X8_1 : CI RX8 1 yX7_init 0 := ⟨Or.inr ⟨_, q568⟩, q569, rfl, ⟨_, _, q570⟩, by decide +kernel⟩
theorem md_X8_init (rm : Room) : MD yX8_init cX8_init (4, none, [], true, rm) := ⟨Or.inl ⟨q567, rfl⟩, plainFor_of_name (by decide), ⟨by decide, by decide⟩, fun _ => rfl⟩
theorem md_X8_holds (rm : Room) : MD yX8_holds cX8_holds (3, (some .boolean), [], false, rm) := ⟨Or.inl ⟨q871, rfl⟩, plainFor_of_name (by decide), ⟨by decide, by decide⟩, fun h => by cases h⟩
theorem fl_X9_7 : FL RX9 7 7 0 true := ⟨_, rfl, Nat.le_of_ble_eq_true rfl, rfl, Or.inl q588⟩
theorem ff_X9_7 : FF RX9 7 7 0 := ⟨_, rfl, Nat.le_of_ble_eq_true rfl, rfl, rfl, q588⟩
theorem ci_X9_1 : CI RX9 1 yX7_init 0 := ⟨Or.inr ⟨_, q587⟩, q569, rfl, ⟨_, _, q570⟩, by decide +kernel⟩
theorem md_X9_init (rm : Room) : MD yX9_init cX9_init (2, none, [], true, rm) := ⟨Or.inl ⟨q586, rfl⟩, plainFor_of_name (by decide), ⟨by decide, by decide⟩, fun _ => rfl⟩
theorem md_X9_holds (rm : Room) : MD yX9_holds cX9_holds (2, (some .boolean), [], false, rm) := ⟨Or.inl ⟨q874, rfl⟩, plainFor_of_name (by decide), ⟨by decide, by decide⟩, fun h => by cases h⟩
theorem fl_X10_7 : FL RX10 7 8 0 true := ⟨_, rfl, Nat.le_of_ble_eq_true rfl, rfl, Or.inl q599⟩
theorem ff_X10_7 : FF RX10 7 8 0 := ⟨_, rfl, Nat.le_of_ble_eq_true rfl, rfl, rfl, q599⟩
theorem fl_X10_13 : FL RX10 13 8 1 true := ⟨_, rfl, Nat.le_of_ble_eq_true rfl, rfl, Or.inl q600⟩
theorem ff_X10_13 : FF RX10 13 8 1 := ⟨_, rfl, Nat.le_of_ble_eq_true rfl, rfl, rfl, q600⟩
theorem fl_X10_16 : FL RX10 16 8 2 true := ⟨_, rfl, Nat.le_of_ble_eq_true rfl, rfl, Or.inl q601⟩
theorem ff_X10_16 : FF RX10 16 8 2 := ⟨_, rfl, Nat.le_of_ble_eq_true rfl, rfl, rfl, q601⟩
theorem ci_X10_1 : CI RX10 1 yX7_init 0 := ⟨Or.inr ⟨_, q598⟩, q569, rfl, ⟨_, _, q570⟩, by decide +kernel⟩
theorem md_X10_init (rm : Room) : MD yX10_init cX10_init (4, none, [], true, rm) := ⟨Or.inl ⟨q597, rfl⟩, plainFor_of_name (by decide), ⟨by decide, by decide⟩, fun _ => rfl⟩
theorem md_X10_holds (rm : Room) : MD yX10_holds cX10_holds (2, (some .boolean), [], false, rm) := ⟨Or.inl ⟨q877, rfl⟩, plainFor_of_name (by decide), ⟨by decide, by decide⟩, fun h => by cases h⟩
theorem fl_X11_9 : FL RX11 9 9 0 true := ⟨_, rfl, Nat.le_of_ble_eq_true rfl, rfl, Or.inl q637⟩
theorem ff_X11_9 : FF RX11 9 9 0 := ⟨_, rfl, Nat.le_of_ble_eq_true rfl, rfl, rfl, q637⟩
theorem fl_X11_15 : FL RX11 15 9 1 true := ⟨_, rfl, Nat.le_of_ble_eq_true rfl, rfl, Or.inl q639⟩
theorem ff_X11_15 : FF RX11 15 9 1 := ⟨_, rfl, Nat.le_of_ble_eq_true rfl, rfl, rfl, q639⟩
theorem fl_X11_20 : FL RX11 20 9 2 true := ⟨_, rfl, Nat.le_of_ble_eq_true rfl, rfl, Or.inl q641⟩
theorem ff_X11_20 : FF RX11 20 9 2 := ⟨_, rfl, Nat.le_of_ble_eq_true rfl, rfl, rfl, q641⟩
theorem fl_X11_33 : FL RX11 33 5 2 true := ⟨_, rfl, Nat.le_of_ble_eq_true rfl, rfl, Or.inr ⟨_, q619⟩⟩
theorem fl_X11_43 : FL RX11 43 5 0 true := ⟨_, rfl, Nat.le_of_ble_eq_true rfl, rfl, Or.inr ⟨_, q615⟩⟩
theorem fl_X11_46 : FL RX11 46 11 0 false := ⟨_, rfl, Nat.le_of_ble_eq_true rfl, rfl, Or.inr ⟨_, q825⟩⟩
theorem fl_X11_49 : FL RX11 49 5 1 true := ⟨_, rfl, Nat.le_of_ble_eq_true rfl, rfl, Or.inr ⟨_, q617⟩⟩
theorem fl_X11_52 : FL RX11 52 11 1 false := ⟨_, rfl, Nat.le_of_ble_eq_true rfl, rfl, Or.inr ⟨_, q827⟩⟩
theorem fl_X11_55 : FL RX11 55 11 4 false := ⟨_, rfl, Nat.le_of_ble_eq_true rfl, rfl, Or.inr ⟨_, q835⟩⟩
theorem fl_X11_67 : FL RX11 67 11 3 false := ⟨_, rfl, Nat.le_of_ble_eq_true rfl, rfl, Or.inr ⟨_, q832⟩⟩
theorem fl_X11_70 : FL RX11 70 11 5 false := ⟨_, rfl, Nat.le_of_ble_eq_true rfl, rfl, Or.inr ⟨_, q837⟩⟩
theorem fl_X11_74 : FL RX11 74 11 2 false := ⟨_, rfl, Nat.le_of_ble_eq_true rfl, rfl, Or.inr ⟨_, q830⟩⟩
theorem nw_X11_30 : NW RX11 30 11 6 := ⟨_, _, rfl, q864, q820, q98, by decide⟩
theorem cs_X11_58 : CS RX11 58 yJ11_min 2 := ⟨q880, q881, q99, by decide +kernel⟩
theorem cs_X11_64 : CS RX11 64 yJ11_max 2 := ⟨q883, q884, q99, by decide +kernel⟩
theorem co_X11_3 : CO RX11 3 := ⟨q632, q112, q113⟩
theorem ci_X11_32 : CI RX11 32 yX13_init 0 := ⟨Or.inr ⟨_, q865⟩, q822, rfl, ⟨_, _, q823⟩, by decide +kernel⟩
theorem md_X11_init (rm : Room) : MD yX11_init cX11_init (4, none, [], true, rm) := ⟨Or.inl ⟨q631, rfl⟩, plainFor_of_name (by decide), ⟨by decide, by decide⟩, fun _ => rfl⟩
theorem md_X11_rules (rm : Room) : MD yX11_rules cX11_rules (6, (some (.object "PassportOffice$Ruling")), [], false, rm) := ⟨Or.inl ⟨q863, rfl⟩, plainFor_of_name (by decide), ⟨by decide, by decide⟩, fun h => by cases h⟩
theorem fl_X12_9 : FL RX12 9 10 0 true := ⟨_, rfl, Nat.le_of_ble_eq_true rfl, rfl, Or.inl q680⟩
theorem ff_X12_9 : FF RX12 9 10 0 := ⟨_, rfl, Nat.le_of_ble_eq_true rfl, rfl, rfl, q680⟩
theorem fl_X12_15 : FL RX12 15 10 1 true := ⟨_, rfl, Nat.le_of_ble_eq_true rfl, rfl, Or.inl q682⟩
theorem ff_X12_15 : FF RX12 15 10 1 := ⟨_, rfl, Nat.le_of_ble_eq_true rfl, rfl, rfl, q682⟩
theorem fl_X12_19 : FL RX12 19 10 2 true := ⟨_, rfl, Nat.le_of_ble_eq_true rfl, rfl, Or.inl q684⟩
theorem ff_X12_19 : FF RX12 19 10 2 := ⟨_, rfl, Nat.le_of_ble_eq_true rfl, rfl, rfl, q684⟩
theorem co_X12_3 : CO RX12 3 := ⟨q679, q112, q113⟩
theorem md_X12_init (rm : Room) : MD yX12_init cX12_init (4, none, [], true, rm) := ⟨Or.inl ⟨q678, rfl⟩, plainFor_of_name (by decide), ⟨by decide, by decide⟩, fun _ => rfl⟩
theorem md_X12_far (rm : Room) : MD yX12_far cX12_far (4, (some .int), [], false, rm) := ⟨Or.inl ⟨q787, rfl⟩, plainFor_of_name (by decide), ⟨by decide, by decide⟩, fun h => by cases h⟩
theorem fl_X13_9 : FL RX13 9 11 2 false := ⟨_, rfl, Nat.le_of_ble_eq_true rfl, rfl, Or.inl q829⟩
theorem fl_X13_15 : FL RX13 15 11 4 false := ⟨_, rfl, Nat.le_of_ble_eq_true rfl, rfl, Or.inl q834⟩
theorem co_X13_3 : CO RX13 3 := ⟨q824, q112, q113⟩
theorem md_X13_init (rm : Room) : MD yX13_init cX13_init (1, none, [], true, rm) := ⟨Or.inl ⟨q823, rfl⟩, plainFor_of_name (by decide), ⟨by decide, by decide⟩, fun _ => rfl⟩
theorem fl_X14_7 : FL RX14 7 12 0 true := ⟨_, rfl, Nat.le_of_ble_eq_true rfl, rfl, Or.inl q916⟩
theorem ff_X14_7 : FF RX14 7 12 0 := ⟨_, rfl, Nat.le_of_ble_eq_true rfl, rfl, rfl, q916⟩
theorem fl_X14_13 : FL RX14 13 12 1 true := ⟨_, rfl, Nat.le_of_ble_eq_true rfl, rfl, Or.inl q918⟩
theorem ff_X14_13 : FF RX14 13 12 1 := ⟨_, rfl, Nat.le_of_ble_eq_true rfl, rfl, rfl, q918⟩
theorem fl_X14_16 : FL RX14 16 12 2 true := ⟨_, rfl, Nat.le_of_ble_eq_true rfl, rfl, Or.inl q920⟩
theorem ff_X14_16 : FF RX14 16 12 2 := ⟨_, rfl, Nat.le_of_ble_eq_true rfl, rfl, rfl, q920⟩
theorem fl_X14_19 : FL RX14 19 12 3 true := ⟨_, rfl, Nat.le_of_ble_eq_true rfl, rfl, Or.inl q922⟩
theorem ff_X14_19 : FF RX14 19 12 3 := ⟨_, rfl, Nat.le_of_ble_eq_true rfl, rfl, rfl, q922⟩
theorem fl_X14_22 : FL RX14 22 12 4 true := ⟨_, rfl, Nat.le_of_ble_eq_true rfl, rfl, Or.inl q924⟩
theorem ff_X14_22 : FF RX14 22 12 4 := ⟨_, rfl, Nat.le_of_ble_eq_true rfl, rfl, rfl, q924⟩
theorem fl_X14_25 : FL RX14 25 12 5 true := ⟨_, rfl, Nat.le_of_ble_eq_true rfl, rfl, Or.inl q926⟩
theorem ff_X14_25 : FF RX14 25 12 5 := ⟨_, rfl, Nat.le_of_ble_eq_true rfl, rfl, rfl, q926⟩
theorem fl_X14_29 : FL RX14 29 12 6 true := ⟨_, rfl, Nat.le_of_ble_eq_true rfl, rfl, Or.inl q928⟩
theorem ff_X14_29 : FF RX14 29 12 6 := ⟨_, rfl, Nat.le_of_ble_eq_true rfl, rfl, rfl, q928⟩
theorem co_X14_1 : CO RX14 1 := ⟨q915, q112, q113⟩
theorem md_X14_init (rm : Room) : MD yX14_init cX14_init (8, none, [], true, rm) := ⟨Or.inl ⟨q914, rfl⟩, plainFor_of_name (by decide), ⟨by decide, by decide⟩, fun _ => rfl⟩
theorem fl_X15_9 : FL RX15 9 13 2 false := ⟨_, rfl, Nat.le_of_ble_eq_true rfl, rfl, Or.inl q955⟩
theorem fl_X15_15 : FL RX15 15 13 3 false := ⟨_, rfl, Nat.le_of_ble_eq_true rfl, rfl, Or.inl q957⟩
theorem fl_X15_18 : FL RX15 18 13 4 false := ⟨_, rfl, Nat.le_of_ble_eq_true rfl, rfl, Or.inl q959⟩
theorem fl_X15_21 : FL RX15 21 13 5 false := ⟨_, rfl, Nat.le_of_ble_eq_true rfl, rfl, Or.inl q961⟩
theorem fl_X15_24 : FL RX15 24 13 0 false := ⟨_, rfl, Nat.le_of_ble_eq_true rfl, rfl, Or.inl q951⟩
theorem fl_X15_27 : FL RX15 27 13 1 false := ⟨_, rfl, Nat.le_of_ble_eq_true rfl, rfl, Or.inl q953⟩
theorem fl_X15_30 : FL RX15 30 13 6 false := ⟨_, rfl, Nat.le_of_ble_eq_true rfl, rfl, Or.inl q963⟩
theorem fl_X15_33 : FL RX15 33 13 7 false := ⟨_, rfl, Nat.le_of_ble_eq_true rfl, rfl, Or.inl q965⟩
theorem co_X15_3 : CO RX15 3 := ⟨q950, q112, q113⟩
theorem md_X15_init (rm : Room) : MD yX15_init cX15_init (1, none, [], true, rm) := ⟨Or.inl ⟨q949, rfl⟩, plainFor_of_name (by decide), ⟨by decide, by decide⟩, fun _ => rfl⟩
theorem md_X15_be (rm : Room) : MD yX15_be cX15_be (2, none, [], false, rm) := ⟨Or.inl ⟨q1243, rfl⟩, plainFor_of_name (by decide), ⟨by decide, by decide⟩, fun h => by cases h⟩
theorem fl_X16_7 : FL RX16 7 14 0 true := ⟨_, rfl, Nat.le_of_ble_eq_true rfl, rfl, Or.inl q1039⟩
theorem ff_X16_7 : FF RX16 7 14 0 := ⟨_, rfl, Nat.le_of_ble_eq_true rfl, rfl, rfl, q1039⟩
theorem fl_X16_13 : FL RX16 13 14 1 true := ⟨_, rfl, Nat.le_of_ble_eq_true rfl, rfl, Or.inl q1041⟩
theorem ff_X16_13 : FF RX16 13 14 1 := ⟨_, rfl, Nat.le_of_ble_eq_true rfl, rfl, rfl, q1041⟩
theorem fl_X16_16 : FL RX16 16 14 2 true := ⟨_, rfl, Nat.le_of_ble_eq_true rfl, rfl, Or.inl q1042⟩
theorem ff_X16_16 : FF RX16 16 14 2 := ⟨_, rfl, Nat.le_of_ble_eq_true rfl, rfl, rfl, q1042⟩
theorem fl_X16_19 : FL RX16 19 14 3 true := ⟨_, rfl, Nat.le_of_ble_eq_true rfl, rfl, Or.inl q1043⟩
theorem ff_X16_19 : FF RX16 19 14 3 := ⟨_, rfl, Nat.le_of_ble_eq_true rfl, rfl, rfl, q1043⟩
theorem fl_X16_22 : FL RX16 22 14 4 true := ⟨_, rfl, Nat.le_of_ble_eq_true rfl, rfl, Or.inl q1044⟩
theorem ff_X16_22 : FF RX16 22 14 4 := ⟨_, rfl, Nat.le_of_ble_eq_true rfl, rfl, rfl, q1044⟩
theorem co_X16_1 : CO RX16 1 := ⟨q1038, q112, q113⟩
theorem md_X16_init (rm : Room) : MD yX16_init cX16_init (6, none, [], true, rm) := ⟨Or.inl ⟨q1037, rfl⟩, plainFor_of_name (by decide), ⟨by decide, by decide⟩, fun _ => rfl⟩
theorem md_X16_units (rm : Room) : MD yX16_units cX16_units (2, (some .int), [], false, rm) := ⟨Or.inl ⟨q1070, rfl⟩, plainFor_of_name (by decide), ⟨by decide, by decide⟩, fun h => by cases h⟩
theorem fl_X17_7 : FL RX17 7 15 0 true := ⟨_, rfl, Nat.le_of_ble_eq_true rfl, rfl, Or.inl q1154⟩
theorem ff_X17_7 : FF RX17 7 15 0 := ⟨_, rfl, Nat.le_of_ble_eq_true rfl, rfl, rfl, q1154⟩
theorem fl_X17_13 : FL RX17 13 15 1 true := ⟨_, rfl, Nat.le_of_ble_eq_true rfl, rfl, Or.inl q1156⟩
theorem ff_X17_13 : FF RX17 13 15 1 := ⟨_, rfl, Nat.le_of_ble_eq_true rfl, rfl, rfl, q1156⟩
theorem fl_X17_16 : FL RX17 16 15 3 false := ⟨_, rfl, Nat.le_of_ble_eq_true rfl, rfl, Or.inl q1160⟩
theorem fl_X17_19 : FL RX17 19 15 2 true := ⟨_, rfl, Nat.le_of_ble_eq_true rfl, rfl, Or.inl q1158⟩
theorem ff_X17_19 : FF RX17 19 15 2 := ⟨_, rfl, Nat.le_of_ble_eq_true rfl, rfl, rfl, q1158⟩
theorem co_X17_1 : CO RX17 1 := ⟨q1153, q112, q113⟩
theorem md_X17_isValid (rm : Room) : MD yX17_isValid cX17_isValid (2, (some .boolean), [], false, rm) := ⟨Or.inl ⟨q859, rfl⟩, plainFor_of_name (by decide), ⟨by decide, by decide⟩, fun h => by cases h⟩
theorem md_X17_init (rm : Room) : MD yX17_init cX17_init (5, none, [], true, rm) := ⟨Or.inl ⟨q1152, rfl⟩, plainFor_of_name (by decide), ⟨by decide, by decide⟩, fun _ => rfl⟩
