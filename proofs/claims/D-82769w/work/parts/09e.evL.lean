/-! evidence: what pool entries name; what calls run: X0 -/
set_option maxRecDepth 100000
theorem cv_X0_7 : CV RX0 7 0 yX1_law 1 := ⟨_, rfl, q435, q436, q437, by decide +kernel⟩
theorem cv_X0_17 : CV RX0 17 0 yX1_person 7 := ⟨_, rfl, q670, q671, q672, by decide +kernel⟩
theorem cv_X0_21 : CV RX0 21 0 yX1_name 1 := ⟨_, rfl, q730, q731, q732, by decide +kernel⟩
theorem cv_X0_26 : CV RX0 26 0 yX1_sign 2 := ⟨_, rfl, q766, q767, q768, by decide +kernel⟩
theorem cv_X0_30 : CV RX0 30 0 yX1_figure 1 := ⟨_, rfl, q773, q774, q775, by decide +kernel⟩
theorem cv_X0_33 : CV RX0 33 0 yX1_far 2 := ⟨_, rfl, q780, q781, q782, by decide +kernel⟩
theorem cv_X0_36 : CV RX0 36 0 yX1_tell 3 := ⟨_, rfl, q791, q792, q793, by decide +kernel⟩
theorem cv_X0_40 : CV RX0 40 0 yX1_judge 5 := ⟨_, rfl, q807, q808, q809, by decide +kernel⟩
theorem cv_X0_46 : CV RX0 46 0 yX1_ask 5 := ⟨_, rfl, q904, q905, q906, by decide +kernel⟩
theorem cv_X0_50 : CV RX0 50 0 yX1_give 2 := ⟨_, rfl, q988, q989, q990, by decide +kernel⟩
theorem cv_X0_55 : CV RX0 55 0 yX1_hands 2 := ⟨_, rfl, q1020, q1021, q1022, by decide +kernel⟩
theorem cv_X0_59 : CV RX0 59 0 yX1_lend 5 := ⟨_, rfl, q1030, q1031, q1032, by decide +kernel⟩
theorem cv_X0_63 : CV RX0 63 0 yX1_units 2 := ⟨_, rfl, q1059, q1060, q1061, by decide +kernel⟩
theorem cv_X0_66 : CV RX0 66 0 yX1_rules 5 := ⟨_, rfl, q1075, q1076, q1077, by decide +kernel⟩
theorem cv_X0_70 : CV RX0 70 0 yX1_order 1 := ⟨_, rfl, q1082, q1083, q1084, by decide +kernel⟩
theorem cv_X0_74 : CV RX0 74 0 yX1_blanks 1 := ⟨_, rfl, q1089, q1090, q1091, by decide +kernel⟩
theorem cv_X0_77 : CV RX0 77 0 yX1_broken 2 := ⟨_, rfl, q1096, q1097, q1098, by decide +kernel⟩
theorem cv_X0_80 : CV RX0 80 0 yX1_days 1 := ⟨_, rfl, q1103, q1104, q1105, by decide +kernel⟩
theorem cv_X0_83 : CV RX0 83 0 yX1_refuse 1 := ⟨_, rfl, q1174, q1175, q1176, by decide +kernel⟩
theorem cv_X0_86 : CV RX0 86 0 yX1_lose 1 := ⟨_, rfl, q1181, q1182, q1183, by decide +kernel⟩
theorem cv_X0_89 : CV RX0 89 0 yX1_again 1 := ⟨_, rfl, q1189, q1190, q1191, by decide +kernel⟩
theorem cv_X0_92 : CV RX0 92 0 yX1_led 2 := ⟨_, rfl, q1196, q1197, q1198, by decide +kernel⟩
theorem cv_X0_95 : CV RX0 95 0 yX1_queue 1 := ⟨_, rfl, q1203, q1204, q1205, by decide +kernel⟩
theorem cv_X0_98 : CV RX0 98 0 yX1_ahead 1 := ⟨_, rfl, q1210, q1211, q1212, by decide +kernel⟩
theorem cv_X0_101 : CV RX0 101 0 yX1_booklet 2 := ⟨_, rfl, q1217, q1218, q1219, by decide +kernel⟩
theorem cv_X0_104 : CV RX0 104 0 yX1_valid 2 := ⟨_, rfl, q1224, q1225, q1226, by decide +kernel⟩
theorem cv_X0_107 : CV RX0 107 0 yX1_missed 2 := ⟨_, rfl, q1231, q1232, q1233, by decide +kernel⟩
theorem cv_X0_110 : CV RX0 110 0 yX1_waits 2 := ⟨_, rfl, q1247, q1248, q1249, by decide +kernel⟩
theorem md_X0_law (rm : Room) : MD yX0_law cX0_law (4, (some .int), [(0, 9, 12, 13), (0, 9, 15, 15)], false, rm) := ⟨Or.inr q432, plainFor_of_name (by decide), ⟨by decide, by decide⟩, fun h => by cases h⟩
theorem md_X0_person (rm : Room) : MD yX0_person cX0_person (10, (some .int), [(0, 20, 23, 13), (0, 20, 27, 15)], false, rm) := ⟨Or.inr q669, plainFor_of_name (by decide), ⟨by decide, by decide⟩, fun h => by cases h⟩
theorem md_X0_name (rm : Room) : MD yX0_name cX0_name (4, (some .int), [(0, 9, 12, 24), (0, 9, 15, 13)], false, rm) := ⟨Or.inr q697, plainFor_of_name (by decide), ⟨by decide, by decide⟩, fun h => by cases h⟩
theorem md_X0_sign (rm : Room) : MD yX0_sign cX0_sign (5, (some .int), [(0, 10, 13, 24)], false, rm) := ⟨Or.inr q765, plainFor_of_name (by decide), ⟨by decide, by decide⟩, fun h => by cases h⟩
theorem md_X0_figure (rm : Room) : MD yX0_figure cX0_figure (4, (some .int), [(0, 9, 12, 24)], false, rm) := ⟨Or.inr q772, plainFor_of_name (by decide), ⟨by decide, by decide⟩, fun h => by cases h⟩
theorem md_X0_far (rm : Room) : MD yX0_far cX0_far (5, (some .int), [(0, 10, 13, 24)], false, rm) := ⟨Or.inr q779, plainFor_of_name (by decide), ⟨by decide, by decide⟩, fun h => by cases h⟩
theorem md_X0_tell (rm : Room) : MD yX0_tell cX0_tell (6, (some .int), [(0, 12, 15, 24), (0, 12, 19, 13)], false, rm) := ⟨Or.inr q790, plainFor_of_name (by decide), ⟨by decide, by decide⟩, fun h => by cases h⟩
theorem md_X0_judge (rm : Room) : MD yX0_judge cX0_judge (8, (some .int), [(0, 16, 19, 24), (0, 16, 23, 13), (0, 16, 27, 44)], false, rm) := ⟨Or.inr q805, plainFor_of_name (by decide), ⟨by decide, by decide⟩, fun h => by cases h⟩
theorem md_X0_ask (rm : Room) : MD yX0_ask cX0_ask (8, (some .int), [(0, 16, 19, 24), (0, 16, 23, 13), (0, 16, 27, 15)], false, rm) := ⟨Or.inr q903, plainFor_of_name (by decide), ⟨by decide, by decide⟩, fun h => by cases h⟩
theorem md_X0_give (rm : Room) : MD yX0_give cX0_give (5, (some .int), [(0, 10, 13, 24), (0, 10, 17, 13), (0, 10, 21, 53)], false, rm) := ⟨Or.inr q986, plainFor_of_name (by decide), ⟨by decide, by decide⟩, fun h => by cases h⟩
theorem md_X0_hands (rm : Room) : MD yX0_hands cX0_hands (4, (some .int), [(0, 6, 9, 24), (0, 6, 12, 13)], false, rm) := ⟨Or.inr q1019, plainFor_of_name (by decide), ⟨by decide, by decide⟩, fun h => by cases h⟩
theorem md_X0_lend (rm : Room) : MD yX0_lend cX0_lend (8, (some .int), [(0, 16, 19, 24), (0, 16, 23, 13)], false, rm) := ⟨Or.inr q1029, plainFor_of_name (by decide), ⟨by decide, by decide⟩, fun h => by cases h⟩
theorem md_X0_units (rm : Room) : MD yX0_units cX0_units (5, (some .int), [(0, 10, 13, 24)], false, rm) := ⟨Or.inr q1058, plainFor_of_name (by decide), ⟨by decide, by decide⟩, fun h => by cases h⟩
theorem md_X0_rules (rm : Room) : MD yX0_rules cX0_rules (7, (some .int), [(0, 11, 14, 13)], false, rm) := ⟨Or.inr q1074, plainFor_of_name (by decide), ⟨by decide, by decide⟩, fun h => by cases h⟩
theorem md_X0_order (rm : Room) : MD yX0_order cX0_order (3, (some .int), [(0, 5, 8, 13)], false, rm) := ⟨Or.inr q1081, plainFor_of_name (by decide), ⟨by decide, by decide⟩, fun h => by cases h⟩
theorem md_X0_blanks (rm : Room) : MD yX0_blanks cX0_blanks (4, (some .int), [(0, 9, 12, 13)], false, rm) := ⟨Or.inr q1088, plainFor_of_name (by decide), ⟨by decide, by decide⟩, fun h => by cases h⟩
theorem md_X0_broken (rm : Room) : MD yX0_broken cX0_broken (4, (some .int), [(0, 6, 9, 13)], false, rm) := ⟨Or.inr q1095, plainFor_of_name (by decide), ⟨by decide, by decide⟩, fun h => by cases h⟩
theorem md_X0_days (rm : Room) : MD yX0_days cX0_days (4, (some .int), [(0, 9, 12, 13)], false, rm) := ⟨Or.inr q1102, plainFor_of_name (by decide), ⟨by decide, by decide⟩, fun h => by cases h⟩
theorem md_X0_refuse (rm : Room) : MD yX0_refuse cX0_refuse (3, (some .int), [(0, 5, 8, 24), (0, 5, 11, 53)], false, rm) := ⟨Or.inr q1173, plainFor_of_name (by decide), ⟨by decide, by decide⟩, fun h => by cases h⟩
theorem md_X0_lose (rm : Room) : MD yX0_lose cX0_lose (3, (some .int), [(0, 5, 8, 24), (0, 5, 11, 53)], false, rm) := ⟨Or.inr q1180, plainFor_of_name (by decide), ⟨by decide, by decide⟩, fun h => by cases h⟩
theorem md_X0_again (rm : Room) : MD yX0_again cX0_again (3, (some .int), [(0, 5, 8, 24), (0, 5, 11, 53)], false, rm) := ⟨Or.inr q1188, plainFor_of_name (by decide), ⟨by decide, by decide⟩, fun h => by cases h⟩
theorem md_X0_led (rm : Room) : MD yX0_led cX0_led (5, (some .int), [(0, 10, 13, 24), (0, 10, 17, 44)], false, rm) := ⟨Or.inr q1195, plainFor_of_name (by decide), ⟨by decide, by decide⟩, fun h => by cases h⟩
theorem md_X0_queue (rm : Room) : MD yX0_queue cX0_queue (4, (some .int), [(0, 9, 12, 24)], false, rm) := ⟨Or.inr q1202, plainFor_of_name (by decide), ⟨by decide, by decide⟩, fun h => by cases h⟩
theorem md_X0_ahead (rm : Room) : MD yX0_ahead cX0_ahead (4, (some .int), [(0, 9, 12, 24)], false, rm) := ⟨Or.inr q1209, plainFor_of_name (by decide), ⟨by decide, by decide⟩, fun h => by cases h⟩
theorem md_X0_booklet (rm : Room) : MD yX0_booklet cX0_booklet (5, (some .int), [(0, 10, 13, 24), (0, 10, 17, 44)], false, rm) := ⟨Or.inr q1216, plainFor_of_name (by decide), ⟨by decide, by decide⟩, fun h => by cases h⟩
theorem md_X0_valid (rm : Room) : MD yX0_valid cX0_valid (5, (some .int), [(0, 10, 13, 24)], false, rm) := ⟨Or.inr q1223, plainFor_of_name (by decide), ⟨by decide, by decide⟩, fun h => by cases h⟩
theorem md_X0_missed (rm : Room) : MD yX0_missed cX0_missed (5, (some .int), [(0, 10, 13, 13)], false, rm) := ⟨Or.inr q1230, plainFor_of_name (by decide), ⟨by decide, by decide⟩, fun h => by cases h⟩
theorem md_X0_waits (rm : Room) : MD yX0_waits cX0_waits (5, (some .int), [(0, 10, 13, 13)], false, rm) := ⟨Or.inr q1246, plainFor_of_name (by decide), ⟨by decide, by decide⟩, fun h => by cases h⟩
