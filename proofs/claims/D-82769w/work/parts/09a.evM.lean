/-! evidence: what pool entries name; what calls run: X5 J11 -/
set_option maxRecDepth 100000
theorem fl_X5_9 : FL RX5 9 4 2 true := ⟨_, rfl, Nat.le_of_ble_eq_true rfl, rfl, Or.inl q1263⟩
theorem ff_X5_9 : FF RX5 9 4 2 := ⟨_, rfl, Nat.le_of_ble_eq_true rfl, rfl, rfl, q1263⟩
theorem fl_X5_13 : FL RX5 13 4 8 false := ⟨_, rfl, Nat.le_of_ble_eq_true rfl, rfl, Or.inl q1269⟩
theorem fl_X5_17 : FL RX5 17 4 9 true := ⟨_, rfl, Nat.le_of_ble_eq_true rfl, rfl, Or.inl q1270⟩
theorem ff_X5_17 : FF RX5 17 4 9 := ⟨_, rfl, Nat.le_of_ble_eq_true rfl, rfl, rfl, q1270⟩
theorem fl_X5_21 : FL RX5 21 4 10 true := ⟨_, rfl, Nat.le_of_ble_eq_true rfl, rfl, Or.inl q1271⟩
theorem ff_X5_21 : FF RX5 21 4 10 := ⟨_, rfl, Nat.le_of_ble_eq_true rfl, rfl, rfl, q1271⟩
theorem fl_X5_24 : FL RX5 24 4 11 true := ⟨_, rfl, Nat.le_of_ble_eq_true rfl, rfl, Or.inl q1272⟩
theorem ff_X5_24 : FF RX5 24 4 11 := ⟨_, rfl, Nat.le_of_ble_eq_true rfl, rfl, rfl, q1272⟩
theorem fl_X5_27 : FL RX5 27 4 12 true := ⟨_, rfl, Nat.le_of_ble_eq_true rfl, rfl, Or.inl q1273⟩
theorem ff_X5_27 : FF RX5 27 4 12 := ⟨_, rfl, Nat.le_of_ble_eq_true rfl, rfl, rfl, q1273⟩
theorem fl_X5_30 : FL RX5 30 4 13 true := ⟨_, rfl, Nat.le_of_ble_eq_true rfl, rfl, Or.inl q1274⟩
theorem ff_X5_30 : FF RX5 30 4 13 := ⟨_, rfl, Nat.le_of_ble_eq_true rfl, rfl, rfl, q1274⟩
theorem fl_X5_33 : FL RX5 33 4 14 true := ⟨_, rfl, Nat.le_of_ble_eq_true rfl, rfl, Or.inl q1275⟩
theorem ff_X5_33 : FF RX5 33 4 14 := ⟨_, rfl, Nat.le_of_ble_eq_true rfl, rfl, rfl, q1275⟩
theorem fl_X5_36 : FL RX5 36 4 15 true := ⟨_, rfl, Nat.le_of_ble_eq_true rfl, rfl, Or.inl q1276⟩
theorem ff_X5_36 : FF RX5 36 4 15 := ⟨_, rfl, Nat.le_of_ble_eq_true rfl, rfl, rfl, q1276⟩
theorem fl_X5_39 : FL RX5 39 4 16 true := ⟨_, rfl, Nat.le_of_ble_eq_true rfl, rfl, Or.inl q1277⟩
theorem ff_X5_39 : FF RX5 39 4 16 := ⟨_, rfl, Nat.le_of_ble_eq_true rfl, rfl, rfl, q1277⟩
theorem fl_X5_42 : FL RX5 42 4 17 true := ⟨_, rfl, Nat.le_of_ble_eq_true rfl, rfl, Or.inl q1278⟩
theorem ff_X5_42 : FF RX5 42 4 17 := ⟨_, rfl, Nat.le_of_ble_eq_true rfl, rfl, rfl, q1278⟩
theorem fl_X5_45 : FL RX5 45 4 18 true := ⟨_, rfl, Nat.le_of_ble_eq_true rfl, rfl, Or.inl q1279⟩
theorem ff_X5_45 : FF RX5 45 4 18 := ⟨_, rfl, Nat.le_of_ble_eq_true rfl, rfl, rfl, q1279⟩
theorem fl_X5_48 : FL RX5 48 4 21 true := ⟨_, rfl, Nat.le_of_ble_eq_true rfl, rfl, Or.inl q1282⟩
theorem ff_X5_48 : FF RX5 48 4 21 := ⟨_, rfl, Nat.le_of_ble_eq_true rfl, rfl, rfl, q1282⟩
theorem fl_X5_51 : FL RX5 51 4 22 true := ⟨_, rfl, Nat.le_of_ble_eq_true rfl, rfl, Or.inl q1283⟩
theorem ff_X5_51 : FF RX5 51 4 22 := ⟨_, rfl, Nat.le_of_ble_eq_true rfl, rfl, rfl, q1283⟩
theorem fl_X5_55 : FL RX5 55 4 29 true := ⟨_, rfl, Nat.le_of_ble_eq_true rfl, rfl, Or.inl q1290⟩
theorem ff_X5_55 : FF RX5 55 4 29 := ⟨_, rfl, Nat.le_of_ble_eq_true rfl, rfl, rfl, q1290⟩
theorem fl_X5_58 : FL RX5 58 4 30 true := ⟨_, rfl, Nat.le_of_ble_eq_true rfl, rfl, Or.inl q1291⟩
theorem ff_X5_58 : FF RX5 58 4 30 := ⟨_, rfl, Nat.le_of_ble_eq_true rfl, rfl, rfl, q1291⟩
theorem fl_X5_61 : FL RX5 61 4 31 true := ⟨_, rfl, Nat.le_of_ble_eq_true rfl, rfl, Or.inl q1292⟩
theorem ff_X5_61 : FF RX5 61 4 31 := ⟨_, rfl, Nat.le_of_ble_eq_true rfl, rfl, rfl, q1292⟩
theorem fl_X5_64 : FL RX5 64 4 32 true := ⟨_, rfl, Nat.le_of_ble_eq_true rfl, rfl, Or.inl q1293⟩
theorem ff_X5_64 : FF RX5 64 4 32 := ⟨_, rfl, Nat.le_of_ble_eq_true rfl, rfl, rfl, q1293⟩
theorem fl_X5_67 : FL RX5 67 4 33 true := ⟨_, rfl, Nat.le_of_ble_eq_true rfl, rfl, Or.inl q1294⟩
theorem ff_X5_67 : FF RX5 67 4 33 := ⟨_, rfl, Nat.le_of_ble_eq_true rfl, rfl, rfl, q1294⟩
theorem fl_X5_70 : FL RX5 70 4 35 true := ⟨_, rfl, Nat.le_of_ble_eq_true rfl, rfl, Or.inl q1296⟩
theorem ff_X5_70 : FF RX5 70 4 35 := ⟨_, rfl, Nat.le_of_ble_eq_true rfl, rfl, rfl, q1296⟩
theorem fl_X5_73 : FL RX5 73 4 36 true := ⟨_, rfl, Nat.le_of_ble_eq_true rfl, rfl, Or.inl q1297⟩
theorem ff_X5_73 : FF RX5 73 4 36 := ⟨_, rfl, Nat.le_of_ble_eq_true rfl, rfl, rfl, q1297⟩
theorem fl_X5_76 : FL RX5 76 4 37 false := ⟨_, rfl, Nat.le_of_ble_eq_true rfl, rfl, Or.inl q1298⟩
theorem fl_X5_79 : FL RX5 79 4 38 false := ⟨_, rfl, Nat.le_of_ble_eq_true rfl, rfl, Or.inl q1299⟩
theorem fl_X5_82 : FL RX5 82 4 39 false := ⟨_, rfl, Nat.le_of_ble_eq_true rfl, rfl, Or.inl q1300⟩
theorem fl_X5_85 : FL RX5 85 4 40 false := ⟨_, rfl, Nat.le_of_ble_eq_true rfl, rfl, Or.inl q1301⟩
theorem fl_X5_88 : FL RX5 88 4 41 false := ⟨_, rfl, Nat.le_of_ble_eq_true rfl, rfl, Or.inl q1302⟩
theorem fl_X5_91 : FL RX5 91 4 44 false := ⟨_, rfl, Nat.le_of_ble_eq_true rfl, rfl, Or.inl q1305⟩
theorem fl_X5_94 : FL RX5 94 4 46 true := ⟨_, rfl, Nat.le_of_ble_eq_true rfl, rfl, Or.inl q1307⟩
theorem ff_X5_94 : FF RX5 94 4 46 := ⟨_, rfl, Nat.le_of_ble_eq_true rfl, rfl, rfl, q1307⟩
theorem fl_X5_97 : FL RX5 97 4 47 true := ⟨_, rfl, Nat.le_of_ble_eq_true rfl, rfl, Or.inl q1308⟩
theorem ff_X5_97 : FF RX5 97 4 47 := ⟨_, rfl, Nat.le_of_ble_eq_true rfl, rfl, rfl, q1308⟩
theorem fl_X5_100 : FL RX5 100 4 48 true := ⟨_, rfl, Nat.le_of_ble_eq_true rfl, rfl, Or.inl q1309⟩
theorem ff_X5_100 : FF RX5 100 4 48 := ⟨_, rfl, Nat.le_of_ble_eq_true rfl, rfl, rfl, q1309⟩
theorem fl_X5_103 : FL RX5 103 4 49 true := ⟨_, rfl, Nat.le_of_ble_eq_true rfl, rfl, Or.inl q1310⟩
theorem ff_X5_103 : FF RX5 103 4 49 := ⟨_, rfl, Nat.le_of_ble_eq_true rfl, rfl, rfl, q1310⟩
theorem fl_X5_106 : FL RX5 106 4 50 true := ⟨_, rfl, Nat.le_of_ble_eq_true rfl, rfl, Or.inl q1311⟩
theorem ff_X5_106 : FF RX5 106 4 50 := ⟨_, rfl, Nat.le_of_ble_eq_true rfl, rfl, rfl, q1311⟩
theorem fl_X5_109 : FL RX5 109 4 51 true := ⟨_, rfl, Nat.le_of_ble_eq_true rfl, rfl, Or.inl q1312⟩
theorem ff_X5_109 : FF RX5 109 4 51 := ⟨_, rfl, Nat.le_of_ble_eq_true rfl, rfl, rfl, q1312⟩
theorem fl_X5_112 : FL RX5 112 4 53 true := ⟨_, rfl, Nat.le_of_ble_eq_true rfl, rfl, Or.inl q1314⟩
theorem ff_X5_112 : FF RX5 112 4 53 := ⟨_, rfl, Nat.le_of_ble_eq_true rfl, rfl, rfl, q1314⟩
theorem fl_X5_115 : FL RX5 115 4 54 true := ⟨_, rfl, Nat.le_of_ble_eq_true rfl, rfl, Or.inl q1315⟩
theorem ff_X5_115 : FF RX5 115 4 54 := ⟨_, rfl, Nat.le_of_ble_eq_true rfl, rfl, rfl, q1315⟩
theorem fl_X5_118 : FL RX5 118 4 55 true := ⟨_, rfl, Nat.le_of_ble_eq_true rfl, rfl, Or.inl q1316⟩
theorem ff_X5_118 : FF RX5 118 4 55 := ⟨_, rfl, Nat.le_of_ble_eq_true rfl, rfl, rfl, q1316⟩
theorem fl_X5_121 : FL RX5 121 4 56 true := ⟨_, rfl, Nat.le_of_ble_eq_true rfl, rfl, Or.inl q1317⟩
theorem ff_X5_121 : FF RX5 121 4 56 := ⟨_, rfl, Nat.le_of_ble_eq_true rfl, rfl, rfl, q1317⟩
theorem fl_X5_124 : FL RX5 124 4 57 true := ⟨_, rfl, Nat.le_of_ble_eq_true rfl, rfl, Or.inl q1318⟩
theorem ff_X5_124 : FF RX5 124 4 57 := ⟨_, rfl, Nat.le_of_ble_eq_true rfl, rfl, rfl, q1318⟩
theorem fl_X5_127 : FL RX5 127 4 58 true := ⟨_, rfl, Nat.le_of_ble_eq_true rfl, rfl, Or.inl q1319⟩
theorem ff_X5_127 : FF RX5 127 4 58 := ⟨_, rfl, Nat.le_of_ble_eq_true rfl, rfl, rfl, q1319⟩
theorem fl_X5_130 : FL RX5 130 4 59 true := ⟨_, rfl, Nat.le_of_ble_eq_true rfl, rfl, Or.inl q1320⟩
theorem ff_X5_130 : FF RX5 130 4 59 := ⟨_, rfl, Nat.le_of_ble_eq_true rfl, rfl, rfl, q1320⟩
theorem fl_X5_133 : FL RX5 133 4 60 true := ⟨_, rfl, Nat.le_of_ble_eq_true rfl, rfl, Or.inl q1321⟩
theorem ff_X5_133 : FF RX5 133 4 60 := ⟨_, rfl, Nat.le_of_ble_eq_true rfl, rfl, rfl, q1321⟩
theorem fl_X5_136 : FL RX5 136 4 61 true := ⟨_, rfl, Nat.le_of_ble_eq_true rfl, rfl, Or.inl q1322⟩
theorem ff_X5_136 : FF RX5 136 4 61 := ⟨_, rfl, Nat.le_of_ble_eq_true rfl, rfl, rfl, q1322⟩
theorem fl_X5_139 : FL RX5 139 4 62 true := ⟨_, rfl, Nat.le_of_ble_eq_true rfl, rfl, Or.inl q1323⟩
theorem ff_X5_139 : FF RX5 139 4 62 := ⟨_, rfl, Nat.le_of_ble_eq_true rfl, rfl, rfl, q1323⟩
theorem fl_X5_142 : FL RX5 142 4 63 true := ⟨_, rfl, Nat.le_of_ble_eq_true rfl, rfl, Or.inl q1324⟩
theorem ff_X5_142 : FF RX5 142 4 63 := ⟨_, rfl, Nat.le_of_ble_eq_true rfl, rfl, rfl, q1324⟩
theorem fl_X5_145 : FL RX5 145 4 64 true := ⟨_, rfl, Nat.le_of_ble_eq_true rfl, rfl, Or.inl q1325⟩
theorem ff_X5_145 : FF RX5 145 4 64 := ⟨_, rfl, Nat.le_of_ble_eq_true rfl, rfl, rfl, q1325⟩
theorem fl_X5_148 : FL RX5 148 4 65 true := ⟨_, rfl, Nat.le_of_ble_eq_true rfl, rfl, Or.inl q1326⟩
theorem ff_X5_148 : FF RX5 148 4 65 := ⟨_, rfl, Nat.le_of_ble_eq_true rfl, rfl, rfl, q1326⟩
theorem fl_X5_151 : FL RX5 151 4 67 true := ⟨_, rfl, Nat.le_of_ble_eq_true rfl, rfl, Or.inl q1328⟩
theorem ff_X5_151 : FF RX5 151 4 67 := ⟨_, rfl, Nat.le_of_ble_eq_true rfl, rfl, rfl, q1328⟩
theorem fl_X5_154 : FL RX5 154 4 68 true := ⟨_, rfl, Nat.le_of_ble_eq_true rfl, rfl, Or.inl q1329⟩
theorem ff_X5_154 : FF RX5 154 4 68 := ⟨_, rfl, Nat.le_of_ble_eq_true rfl, rfl, rfl, q1329⟩
theorem fl_X5_157 : FL RX5 157 4 69 true := ⟨_, rfl, Nat.le_of_ble_eq_true rfl, rfl, Or.inl q1330⟩
theorem ff_X5_157 : FF RX5 157 4 69 := ⟨_, rfl, Nat.le_of_ble_eq_true rfl, rfl, rfl, q1330⟩
theorem fl_X5_160 : FL RX5 160 4 70 true := ⟨_, rfl, Nat.le_of_ble_eq_true rfl, rfl, Or.inl q1331⟩
theorem ff_X5_160 : FF RX5 160 4 70 := ⟨_, rfl, Nat.le_of_ble_eq_true rfl, rfl, rfl, q1331⟩
theorem fl_X5_163 : FL RX5 163 4 77 true := ⟨_, rfl, Nat.le_of_ble_eq_true rfl, rfl, Or.inl q1338⟩
theorem ff_X5_163 : FF RX5 163 4 77 := ⟨_, rfl, Nat.le_of_ble_eq_true rfl, rfl, rfl, q1338⟩
theorem fl_X5_166 : FL RX5 166 4 79 true := ⟨_, rfl, Nat.le_of_ble_eq_true rfl, rfl, Or.inl q1340⟩
theorem ff_X5_166 : FF RX5 166 4 79 := ⟨_, rfl, Nat.le_of_ble_eq_true rfl, rfl, rfl, q1340⟩
theorem fl_X5_169 : FL RX5 169 4 80 true := ⟨_, rfl, Nat.le_of_ble_eq_true rfl, rfl, Or.inl q1341⟩
theorem ff_X5_169 : FF RX5 169 4 80 := ⟨_, rfl, Nat.le_of_ble_eq_true rfl, rfl, rfl, q1341⟩
theorem fl_X5_172 : FL RX5 172 4 81 true := ⟨_, rfl, Nat.le_of_ble_eq_true rfl, rfl, Or.inl q1342⟩
theorem ff_X5_172 : FF RX5 172 4 81 := ⟨_, rfl, Nat.le_of_ble_eq_true rfl, rfl, rfl, q1342⟩
theorem fl_X5_175 : FL RX5 175 4 82 true := ⟨_, rfl, Nat.le_of_ble_eq_true rfl, rfl, Or.inl q1343⟩
theorem ff_X5_175 : FF RX5 175 4 82 := ⟨_, rfl, Nat.le_of_ble_eq_true rfl, rfl, rfl, q1343⟩
theorem fl_X5_178 : FL RX5 178 4 0 false := ⟨_, rfl, Nat.le_of_ble_eq_true rfl, rfl, Or.inl q1261⟩
theorem fl_X5_181 : FL RX5 181 4 3 false := ⟨_, rfl, Nat.le_of_ble_eq_true rfl, rfl, Or.inl q1264⟩
theorem fl_X5_184 : FL RX5 184 4 5 false := ⟨_, rfl, Nat.le_of_ble_eq_true rfl, rfl, Or.inl q1266⟩
theorem fl_X5_187 : FL RX5 187 4 4 false := ⟨_, rfl, Nat.le_of_ble_eq_true rfl, rfl, Or.inl q1265⟩
theorem fl_X5_194 : FL RX5 194 4 6 false := ⟨_, rfl, Nat.le_of_ble_eq_true rfl, rfl, Or.inl q1267⟩
theorem fl_X5_217 : FL RX5 217 4 20 false := ⟨_, rfl, Nat.le_of_ble_eq_true rfl, rfl, Or.inl q1281⟩
theorem fl_X5_258 : FL RX5 258 4 7 false := ⟨_, rfl, Nat.le_of_ble_eq_true rfl, rfl, Or.inl q1268⟩
theorem fl_X5_314 : FL RX5 314 4 1 false := ⟨_, rfl, Nat.le_of_ble_eq_true rfl, rfl, Or.inl q1262⟩
theorem fl_X5_328 : FL RX5 328 4 19 false := ⟨_, rfl, Nat.le_of_ble_eq_true rfl, rfl, Or.inl q1280⟩
theorem fl_X5_340 : FL RX5 340 4 23 false := ⟨_, rfl, Nat.le_of_ble_eq_true rfl, rfl, Or.inl q1284⟩
theorem fl_X5_343 : FL RX5 343 4 24 false := ⟨_, rfl, Nat.le_of_ble_eq_true rfl, rfl, Or.inl q1285⟩
theorem fl_X5_346 : FL RX5 346 4 25 false := ⟨_, rfl, Nat.le_of_ble_eq_true rfl, rfl, Or.inl q1286⟩
theorem fl_X5_349 : FL RX5 349 4 26 false := ⟨_, rfl, Nat.le_of_ble_eq_true rfl, rfl, Or.inl q1287⟩
theorem fl_X5_352 : FL RX5 352 4 27 false := ⟨_, rfl, Nat.le_of_ble_eq_true rfl, rfl, Or.inl q1288⟩
theorem fl_X5_355 : FL RX5 355 4 28 false := ⟨_, rfl, Nat.le_of_ble_eq_true rfl, rfl, Or.inl q1289⟩
theorem fl_X5_372 : FL RX5 372 4 34 false := ⟨_, rfl, Nat.le_of_ble_eq_true rfl, rfl, Or.inl q1295⟩
theorem fl_X5_397 : FL RX5 397 4 52 false := ⟨_, rfl, Nat.le_of_ble_eq_true rfl, rfl, Or.inl q1313⟩
theorem fl_X5_403 : FL RX5 403 4 42 false := ⟨_, rfl, Nat.le_of_ble_eq_true rfl, rfl, Or.inl q1303⟩
theorem fl_X5_406 : FL RX5 406 4 43 false := ⟨_, rfl, Nat.le_of_ble_eq_true rfl, rfl, Or.inl q1304⟩
theorem fl_X5_409 : FL RX5 409 4 45 false := ⟨_, rfl, Nat.le_of_ble_eq_true rfl, rfl, Or.inl q1306⟩
theorem fl_X5_412 : FL RX5 412 4 66 false := ⟨_, rfl, Nat.le_of_ble_eq_true rfl, rfl, Or.inl q1327⟩
theorem fl_X5_415 : FL RX5 415 4 71 false := ⟨_, rfl, Nat.le_of_ble_eq_true rfl, rfl, Or.inl q1332⟩
theorem fl_X5_428 : FL RX5 428 4 72 false := ⟨_, rfl, Nat.le_of_ble_eq_true rfl, rfl, Or.inl q1333⟩
theorem fl_X5_447 : FL RX5 447 4 78 false := ⟨_, rfl, Nat.le_of_ble_eq_true rfl, rfl, Or.inl q1339⟩
theorem fl_X5_456 : FL RX5 456 4 73 false := ⟨_, rfl, Nat.le_of_ble_eq_true rfl, rfl, Or.inl q1334⟩
theorem fl_X5_465 : FL RX5 465 4 74 false := ⟨_, rfl, Nat.le_of_ble_eq_true rfl, rfl, Or.inl q1335⟩
theorem fl_X5_481 : FL RX5 481 4 76 false := ⟨_, rfl, Nat.le_of_ble_eq_true rfl, rfl, Or.inl q1337⟩
theorem fl_X5_484 : FL RX5 484 4 75 false := ⟨_, rfl, Nat.le_of_ble_eq_true rfl, rfl, Or.inl q1336⟩
theorem cs_X5_277 : CS RX5 277 yX5_fact 1 := ⟨q1616, q1617, q81, by decide +kernel⟩
theorem cs_X5_303 : CS RX5 303 yX5_item 1 := ⟨q1575, q1576, q81, by decide +kernel⟩
theorem cs_X5_317 : CS RX5 317 yX5_in 3 := ⟨q1536, q1537, q81, by decide +kernel⟩
theorem cs_X5_331 : CS RX5 331 yJ11_floorDiv 2 := ⟨q1720, q1721, q99, by decide +kernel⟩
theorem cs_X5_366 : CS RX5 366 yJ11_max 2 := ⟨q1691, q884, q99, by decide +kernel⟩
theorem cs_X5_369 : CS RX5 369 yJ11_min 2 := ⟨q1735, q881, q99, by decide +kernel⟩
theorem cs_X5_376 : CS RX5 376 yX5_noFace 1 := ⟨q1635, q1636, q81, by decide +kernel⟩
theorem cs_X5_379 : CS RX5 379 yX5_turnOf 1 := ⟨q1650, q1651, q81, by decide +kernel⟩
theorem cs_X5_382 : CS RX5 382 yX5_isGap 1 := ⟨q1653, q1654, q81, by decide +kernel⟩
theorem cs_X5_394 : CS RX5 394 yX5_noDesk 1 := ⟨q1676, q1677, q81, by decide +kernel⟩
theorem cs_X5_450 : CS RX5 450 yX5_stateAt 1 := ⟨q1788, q1789, q81, by decide +kernel⟩
theorem cv_X5_190 : CV RX5 190 4 yX5_isAt 2 := ⟨_, rfl, q1551, q1553, qs37, by decide +kernel⟩
theorem cv_X5_197 : CV RX5 197 4 yX5_blanksBetween 0 := ⟨_, rfl, q1547, q1549, qs36, by decide +kernel⟩
theorem cz_X5_200 : CZ RX5 200 yJ4_length 0 := ⟨q1568, q493, q494, by decide +kernel⟩
theorem cz_X5_206 : CZ RX5 206 yJ4_charAt 1 := ⟨q1569, q503, q504, by decide +kernel⟩
theorem cv_X5_210 : CV RX5 210 4 yX5_word 0 := ⟨_, rfl, q1559, q1561, qs39, by decide +kernel⟩
theorem cv_X5_213 : CV RX5 213 4 yX5_isWord 1 := ⟨_, rfl, q1564, q1566, qs40, by decide +kernel⟩
theorem cv_X5_254 : CV RX5 254 4 yX5_passesSign 1 := ⟨_, rfl, q1607, q1609, qs46, by decide +kernel⟩
theorem cv_X5_261 : CV RX5 261 4 yX5_readCond 0 := ⟨_, rfl, q1595, q1597, qs43, by decide +kernel⟩
theorem cv_X5_267 : CV RX5 267 4 yX5_passes 1 := ⟨_, rfl, q1591, q1593, qs42, by decide +kernel⟩
theorem cv_X5_270 : CV RX5 270 4 yX5_readAtom 0 := ⟨_, rfl, q1603, q1605, qs45, by decide +kernel⟩
theorem cv_X5_273 : CV RX5 273 4 yX5_adds 3 := ⟨_, rfl, q1612, q1614, qs47, by decide +kernel⟩
theorem cv_X5_281 : CV RX5 281 4 yX5_number 0 := ⟨_, rfl, q1586, q1588, qs41, by decide +kernel⟩
theorem cv_X5_286 : CV RX5 286 4 yX5_readAllOf 0 := ⟨_, rfl, q1599, q1601, qs44, by decide +kernel⟩
theorem cv_X5_308 : CV RX5 308 4 yX5_readClause 1 := ⟨_, rfl, q1555, q1557, qs38, by decide +kernel⟩
theorem cv_X5_311 : CV RX5 311 4 yX5_uses 0 := ⟨_, rfl, q1532, q1534, qs33, by decide +kernel⟩
theorem cv_X5_321 : CV RX5 321 4 yX5_throwsIf 2 := ⟨_, rfl, q1539, q1541, qs34, by decide +kernel⟩
theorem cv_X5_325 : CV RX5 325 4 yX5_readLaw 0 := ⟨_, rfl, q1543, q1545, qs35, by decide +kernel⟩
theorem cv_X5_337 : CV RX5 337 4 yX5_validOf 2 := ⟨_, rfl, q1723, q1725, qs54, by decide +kernel⟩
theorem cv_X5_359 : CV RX5 359 4 yX5_lawOf 1 := ⟨_, rfl, q1727, q1729, qs55, by decide +kernel⟩
theorem cv_X5_363 : CV RX5 363 4 yX5_holds 3 := ⟨_, rfl, q1731, q1733, qs56, by decide +kernel⟩
theorem cv_X5_385 : CV RX5 385 4 yX5_nobody 1 := ⟨_, rfl, q1642, q1644, qs48, by decide +kernel⟩
theorem cv_X5_388 : CV RX5 388 4 yX5_readName 0 := ⟨_, rfl, q1646, q1648, qs49, by decide +kernel⟩
theorem cv_X5_391 : CV RX5 391 4 yX5_farOf 2 := ⟨_, rfl, q1668, q1670, qs50, by decide +kernel⟩
theorem cv_X5_400 : CV RX5 400 4 yX5_unitsOf 2 := ⟨_, rfl, q1687, q1689, qs51, by decide +kernel⟩
theorem cv_X5_418 : CV RX5 418 4 yX5_noAsk 2 := ⟨_, rfl, q1712, q1714, qs52, by decide +kernel⟩
theorem cv_X5_421 : CV RX5 421 4 yX5_judges 4 := ⟨_, rfl, q1716, q1718, qs53, by decide +kernel⟩
theorem cv_X5_425 : CV RX5 425 4 yX5_sets 3 := ⟨_, rfl, q1740, q1742, qs57, by decide +kernel⟩
theorem cv_X5_431 : CV RX5 431 4 yX5_noAsking 1 := ⟨_, rfl, q1748, q1750, qs58, by decide +kernel⟩
theorem cv_X5_434 : CV RX5 434 4 yX5_now 2 := ⟨_, rfl, q1752, q1754, qs59, by decide +kernel⟩
theorem cv_X5_437 : CV RX5 437 4 yX5_lacksOf 1 := ⟨_, rfl, q1756, q1758, qs60, by decide +kernel⟩
theorem cv_X5_440 : CV RX5 440 4 yX5_checks 1 := ⟨_, rfl, q1764, q1766, qs61, by decide +kernel⟩
theorem cv_X5_444 : CV RX5 444 4 yX5_hasTicket 1 := ⟨_, rfl, q1795, q1797, qs67, by decide +kernel⟩
theorem cv_X5_453 : CV RX5 453 4 yX5_isAhead 3 := ⟨_, rfl, q1791, q1793, qs66, by decide +kernel⟩
theorem cv_X5_459 : CV RX5 459 4 yX5_gets 1 := ⟨_, rfl, q1776, q1778, qs63, by decide +kernel⟩
theorem cv_X5_462 : CV RX5 462 4 yX5_prints 1 := ⟨_, rfl, q1811, q1813, qs71, by decide +kernel⟩
theorem cv_X5_468 : CV RX5 468 4 yX5_lines 2 := ⟨_, rfl, q1784, q1786, qs65, by decide +kernel⟩
theorem cv_X5_472 : CV RX5 472 4 yX5_takes 2 := ⟨_, rfl, q1799, q1801, qs68, by decide +kernel⟩
theorem cv_X5_475 : CV RX5 475 4 yX5_canPrint 0 := ⟨_, rfl, q1803, q1805, qs69, by decide +kernel⟩
theorem cv_X5_478 : CV RX5 478 4 yX5_does 2 := ⟨_, rfl, q1807, q1809, qs70, by decide +kernel⟩
theorem cv_X5_487 : CV RX5 487 4 yX5_works 2 := ⟨_, rfl, q1780, q1782, qs64, by decide +kernel⟩
theorem cv_X5_490 : CV RX5 490 4 yX5_day 1 := ⟨_, rfl, q1772, q1774, qs62, by decide +kernel⟩
theorem cv_X5_493 : CV RX5 493 4 yX5_inState 2 := ⟨_, rfl, q1863, q1865, qs72, by decide +kernel⟩
theorem co_X5_3 : CO RX5 3 := ⟨q1260, q112, q113⟩
theorem md_X5_init (rm : Room) : MD yX5_init cX5_init (1, none, [], true, rm) := ⟨Or.inl ⟨q1259, rfl⟩, plainFor_of_name (by decide), ⟨by decide, by decide⟩, fun _ => rfl⟩
theorem md_X5_thrown (rm : Room) : MD yX5_thrown cX5_thrown (1, (some .int), [], false, rm) := ⟨Or.inl ⟨q1515, rfl⟩, plainFor_of_name (by decide), ⟨by decide, by decide⟩, fun h => by cases h⟩
theorem md_X5_feed (rm : Room) : MD yX5_feed cX5_feed (7, (some .int), [], false, rm) := ⟨Or.inl ⟨q1519, rfl⟩, plainFor_of_name (by decide), ⟨by decide, by decide⟩, fun h => by cases h⟩
theorem md_X5_end (rm : Room) : MD yX5_end cX5_end (2, (some .boolean), [], false, rm) := ⟨Or.inl ⟨q1523, rfl⟩, plainFor_of_name (by decide), ⟨by decide, by decide⟩, fun h => by cases h⟩
theorem md_X5_fault (rm : Room) : MD yX5_fault cX5_fault (1, (some .int), [], false, rm) := ⟨Or.inl ⟨q1527, rfl⟩, plainFor_of_name (by decide), ⟨by decide, by decide⟩, fun h => by cases h⟩
theorem md_X5_law (rm : Room) : MD yX5_law cX5_law (4, (some .int), [], false, rm) := ⟨Or.inl ⟨q1531, rfl⟩, plainFor_of_name (by decide), ⟨by decide, by decide⟩, fun h => by cases h⟩
theorem md_X5_uses (rm : Room) : MD yX5_uses cX5_uses (1, none, [], false, rm) := ⟨Or.inl ⟨q1535, rfl⟩, plainFor_of_name (by decide), ⟨by decide, by decide⟩, fun h => by cases h⟩
theorem md_X5_in (rm : Room) : MD yX5_in cX5_in (3, (some .boolean), [], false, rm) := ⟨Or.inl ⟨q1538, rfl⟩, plainFor_of_name (by decide), ⟨by decide, by decide⟩, fun h => by cases h⟩
theorem md_X5_throwsIf (rm : Room) : MD yX5_throwsIf cX5_throwsIf (3, (some .boolean), [], false, rm) := ⟨Or.inl ⟨q1542, rfl⟩, plainFor_of_name (by decide), ⟨by decide, by decide⟩, fun h => by cases h⟩
theorem md_X5_readLaw (rm : Room) : MD yX5_readLaw cX5_readLaw (2, (some .int), [], false, rm) := ⟨Or.inl ⟨q1546, rfl⟩, plainFor_of_name (by decide), ⟨by decide, by decide⟩, fun h => by cases h⟩
theorem md_X5_blanksBetween (rm : Room) : MD yX5_blanksBetween cX5_blanksBetween (1, none, [], false, rm) := ⟨Or.inl ⟨q1550, rfl⟩, plainFor_of_name (by decide), ⟨by decide, by decide⟩, fun h => by cases h⟩
theorem md_X5_isAt (rm : Room) : MD yX5_isAt cX5_isAt (3, (some .boolean), [], false, rm) := ⟨Or.inl ⟨q1554, rfl⟩, plainFor_of_name (by decide), ⟨by decide, by decide⟩, fun h => by cases h⟩
theorem md_X5_readClause (rm : Room) : MD yX5_readClause cX5_readClause (4, (some .boolean), [], false, rm) := ⟨Or.inl ⟨q1558, rfl⟩, plainFor_of_name (by decide), ⟨by decide, by decide⟩, fun h => by cases h⟩
theorem md_X5_word (rm : Room) : MD yX5_word cX5_word (1, none, [], false, rm) := ⟨Or.inl ⟨q1562, rfl⟩, plainFor_of_name (by decide), ⟨by decide, by decide⟩, fun h => by cases h⟩
theorem md_X5_isWord (rm : Room) : MD yX5_isWord cX5_isWord (4, (some .boolean), [], false, rm) := ⟨Or.inl ⟨q1567, rfl⟩, plainFor_of_name (by decide), ⟨by decide, by decide⟩, fun h => by cases h⟩
theorem md_X5_item (rm : Room) : MD yX5_item cX5_item (1, (some (.object "java/lang/String")), [], false, rm) := ⟨Or.inl ⟨q1577, rfl⟩, plainFor_of_name (by decide), ⟨by decide, by decide⟩, fun h => by cases h⟩
theorem md_X5_number (rm : Room) : MD yX5_number cX5_number (2, (some .int), [], false, rm) := ⟨Or.inl ⟨q1589, rfl⟩, plainFor_of_name (by decide), ⟨by decide, by decide⟩, fun h => by cases h⟩
theorem md_X5_passes (rm : Room) : MD yX5_passes cX5_passes (2, (some .boolean), [], false, rm) := ⟨Or.inl ⟨q1594, rfl⟩, plainFor_of_name (by decide), ⟨by decide, by decide⟩, fun h => by cases h⟩
theorem md_X5_readCond (rm : Room) : MD yX5_readCond cX5_readCond (1, (some .boolean), [], false, rm) := ⟨Or.inl ⟨q1598, rfl⟩, plainFor_of_name (by decide), ⟨by decide, by decide⟩, fun h => by cases h⟩
theorem md_X5_readAllOf (rm : Room) : MD yX5_readAllOf cX5_readAllOf (1, (some .boolean), [], false, rm) := ⟨Or.inl ⟨q1602, rfl⟩, plainFor_of_name (by decide), ⟨by decide, by decide⟩, fun h => by cases h⟩
theorem md_X5_readAtom (rm : Room) : MD yX5_readAtom cX5_readAtom (4, (some .boolean), [], false, rm) := ⟨Or.inl ⟨q1606, rfl⟩, plainFor_of_name (by decide), ⟨by decide, by decide⟩, fun h => by cases h⟩
theorem md_X5_passesSign (rm : Room) : MD yX5_passesSign cX5_passesSign (2, (some .boolean), [], false, rm) := ⟨Or.inl ⟨q1610, rfl⟩, plainFor_of_name (by decide), ⟨by decide, by decide⟩, fun h => by cases h⟩
theorem md_X5_adds (rm : Room) : MD yX5_adds cX5_adds (5, none, [], false, rm) := ⟨Or.inl ⟨q1615, rfl⟩, plainFor_of_name (by decide), ⟨by decide, by decide⟩, fun h => by cases h⟩
theorem md_X5_fact (rm : Room) : MD yX5_fact cX5_fact (1, (some (.object "java/lang/String")), [], false, rm) := ⟨Or.inl ⟨q1618, rfl⟩, plainFor_of_name (by decide), ⟨by decide, by decide⟩, fun h => by cases h⟩
theorem md_X5_person (rm : Room) : MD yX5_person cX5_person (8, (some .int), [], false, rm) := ⟨Or.inl ⟨q1633, rfl⟩, plainFor_of_name (by decide), ⟨by decide, by decide⟩, fun h => by cases h⟩
theorem md_X5_noFace (rm : Room) : MD yX5_noFace cX5_noFace (1, (some .boolean), [], false, rm) := ⟨Or.inl ⟨q1637, rfl⟩, plainFor_of_name (by decide), ⟨by decide, by decide⟩, fun h => by cases h⟩
theorem md_X5_name (rm : Room) : MD yX5_name cX5_name (4, (some .int), [], false, rm) := ⟨Or.inl ⟨q1641, rfl⟩, plainFor_of_name (by decide), ⟨by decide, by decide⟩, fun h => by cases h⟩
theorem md_X5_nobody (rm : Room) : MD yX5_nobody cX5_nobody (2, (some .boolean), [], false, rm) := ⟨Or.inl ⟨q1645, rfl⟩, plainFor_of_name (by decide), ⟨by decide, by decide⟩, fun h => by cases h⟩
theorem md_X5_readName (rm : Room) : MD yX5_readName cX5_readName (5, (some .int), [], false, rm) := ⟨Or.inl ⟨q1649, rfl⟩, plainFor_of_name (by decide), ⟨by decide, by decide⟩, fun h => by cases h⟩
theorem md_X5_turnOf (rm : Room) : MD yX5_turnOf cX5_turnOf (1, (some .int), [], false, rm) := ⟨Or.inl ⟨q1652, rfl⟩, plainFor_of_name (by decide), ⟨by decide, by decide⟩, fun h => by cases h⟩
theorem md_X5_isGap (rm : Room) : MD yX5_isGap cX5_isGap (1, (some .boolean), [], false, rm) := ⟨Or.inl ⟨q1655, rfl⟩, plainFor_of_name (by decide), ⟨by decide, by decide⟩, fun h => by cases h⟩
theorem md_X5_sign (rm : Room) : MD yX5_sign cX5_sign (3, (some .int), [], false, rm) := ⟨Or.inl ⟨q1659, rfl⟩, plainFor_of_name (by decide), ⟨by decide, by decide⟩, fun h => by cases h⟩
theorem md_X5_figure (rm : Room) : MD yX5_figure cX5_figure (5, (some .int), [], false, rm) := ⟨Or.inl ⟨q1663, rfl⟩, plainFor_of_name (by decide), ⟨by decide, by decide⟩, fun h => by cases h⟩
theorem md_X5_far (rm : Room) : MD yX5_far cX5_far (3, (some .int), [], false, rm) := ⟨Or.inl ⟨q1667, rfl⟩, plainFor_of_name (by decide), ⟨by decide, by decide⟩, fun h => by cases h⟩
theorem md_X5_farOf (rm : Room) : MD yX5_farOf cX5_farOf (6, (some .int), [], false, rm) := ⟨Or.inl ⟨q1671, rfl⟩, plainFor_of_name (by decide), ⟨by decide, by decide⟩, fun h => by cases h⟩
theorem md_X5_hands (rm : Room) : MD yX5_hands cX5_hands (3, none, [], false, rm) := ⟨Or.inl ⟨q1675, rfl⟩, plainFor_of_name (by decide), ⟨by decide, by decide⟩, fun h => by cases h⟩
theorem md_X5_noDesk (rm : Room) : MD yX5_noDesk cX5_noDesk (1, (some .boolean), [], false, rm) := ⟨Or.inl ⟨q1678, rfl⟩, plainFor_of_name (by decide), ⟨by decide, by decide⟩, fun h => by cases h⟩
theorem md_X5_lend (rm : Room) : MD yX5_lend cX5_lend (6, (some .int), [], false, rm) := ⟨Or.inl ⟨q1682, rfl⟩, plainFor_of_name (by decide), ⟨by decide, by decide⟩, fun h => by cases h⟩
theorem md_X5_units (rm : Room) : MD yX5_units cX5_units (3, (some .int), [], false, rm) := ⟨Or.inl ⟨q1686, rfl⟩, plainFor_of_name (by decide), ⟨by decide, by decide⟩, fun h => by cases h⟩
theorem md_X5_unitsOf (rm : Room) : MD yX5_unitsOf cX5_unitsOf (5, (some .int), [], false, rm) := ⟨Or.inl ⟨q1690, rfl⟩, plainFor_of_name (by decide), ⟨by decide, by decide⟩, fun h => by cases h⟩
theorem md_X5_rules (rm : Room) : MD yX5_rules cX5_rules (6, none, [], false, rm) := ⟨Or.inl ⟨q1695, rfl⟩, plainFor_of_name (by decide), ⟨by decide, by decide⟩, fun h => by cases h⟩
theorem md_X5_order (rm : Room) : MD yX5_order cX5_order (2, none, [], false, rm) := ⟨Or.inl ⟨q1699, rfl⟩, plainFor_of_name (by decide), ⟨by decide, by decide⟩, fun h => by cases h⟩
theorem md_X5_blanks (rm : Room) : MD yX5_blanks cX5_blanks (2, (some .int), [], false, rm) := ⟨Or.inl ⟨q1703, rfl⟩, plainFor_of_name (by decide), ⟨by decide, by decide⟩, fun h => by cases h⟩
theorem md_X5_broken (rm : Room) : MD yX5_broken cX5_broken (3, none, [], false, rm) := ⟨Or.inl ⟨q1707, rfl⟩, plainFor_of_name (by decide), ⟨by decide, by decide⟩, fun h => by cases h⟩
theorem md_X5_judge (rm : Room) : MD yX5_judge cX5_judge (6, (some .int), [], false, rm) := ⟨Or.inl ⟨q1711, rfl⟩, plainFor_of_name (by decide), ⟨by decide, by decide⟩, fun h => by cases h⟩
theorem md_X5_noAsk (rm : Room) : MD yX5_noAsk cX5_noAsk (3, (some .boolean), [], false, rm) := ⟨Or.inl ⟨q1715, rfl⟩, plainFor_of_name (by decide), ⟨by decide, by decide⟩, fun h => by cases h⟩
theorem md_X5_judges (rm : Room) : MD yX5_judges cX5_judges (8, none, [], false, rm) := ⟨Or.inl ⟨q1719, rfl⟩, plainFor_of_name (by decide), ⟨by decide, by decide⟩, fun h => by cases h⟩
theorem md_X5_validOf (rm : Room) : MD yX5_validOf cX5_validOf (5, (some .int), [], false, rm) := ⟨Or.inl ⟨q1726, rfl⟩, plainFor_of_name (by decide), ⟨by decide, by decide⟩, fun h => by cases h⟩
theorem md_X5_lawOf (rm : Room) : MD yX5_lawOf cX5_lawOf (4, (some .int), [], false, rm) := ⟨Or.inl ⟨q1730, rfl⟩, plainFor_of_name (by decide), ⟨by decide, by decide⟩, fun h => by cases h⟩
theorem md_X5_holds (rm : Room) : MD yX5_holds cX5_holds (7, (some .boolean), [], false, rm) := ⟨Or.inl ⟨q1734, rfl⟩, plainFor_of_name (by decide), ⟨by decide, by decide⟩, fun h => by cases h⟩
theorem md_X5_ask (rm : Room) : MD yX5_ask cX5_ask (7, (some .int), [], false, rm) := ⟨Or.inl ⟨q1739, rfl⟩, plainFor_of_name (by decide), ⟨by decide, by decide⟩, fun h => by cases h⟩
theorem md_X5_sets (rm : Room) : MD yX5_sets cX5_sets (4, none, [], false, rm) := ⟨Or.inl ⟨q1743, rfl⟩, plainFor_of_name (by decide), ⟨by decide, by decide⟩, fun h => by cases h⟩
theorem md_X5_give (rm : Room) : MD yX5_give cX5_give (3, (some .int), [], false, rm) := ⟨Or.inl ⟨q1747, rfl⟩, plainFor_of_name (by decide), ⟨by decide, by decide⟩, fun h => by cases h⟩
theorem md_X5_noAsking (rm : Room) : MD yX5_noAsking cX5_noAsking (2, (some .boolean), [], false, rm) := ⟨Or.inl ⟨q1751, rfl⟩, plainFor_of_name (by decide), ⟨by decide, by decide⟩, fun h => by cases h⟩
theorem md_X5_now (rm : Room) : MD yX5_now cX5_now (3, (some .int), [], false, rm) := ⟨Or.inl ⟨q1755, rfl⟩, plainFor_of_name (by decide), ⟨by decide, by decide⟩, fun h => by cases h⟩
theorem md_X5_lacksOf (rm : Room) : MD yX5_lacksOf cX5_lacksOf (2, (some .int), [], false, rm) := ⟨Or.inl ⟨q1759, rfl⟩, plainFor_of_name (by decide), ⟨by decide, by decide⟩, fun h => by cases h⟩
theorem md_X5_tell (rm : Room) : MD yX5_tell cX5_tell (6, (some .int), [], false, rm) := ⟨Or.inl ⟨q1763, rfl⟩, plainFor_of_name (by decide), ⟨by decide, by decide⟩, fun h => by cases h⟩
theorem md_X5_checks (rm : Room) : MD yX5_checks cX5_checks (6, none, [], false, rm) := ⟨Or.inl ⟨q1767, rfl⟩, plainFor_of_name (by decide), ⟨by decide, by decide⟩, fun h => by cases h⟩
theorem md_X5_days (rm : Room) : MD yX5_days cX5_days (3, (some .int), [], false, rm) := ⟨Or.inl ⟨q1771, rfl⟩, plainFor_of_name (by decide), ⟨by decide, by decide⟩, fun h => by cases h⟩
theorem md_X5_day (rm : Room) : MD yX5_day cX5_day (4, none, [], false, rm) := ⟨Or.inl ⟨q1775, rfl⟩, plainFor_of_name (by decide), ⟨by decide, by decide⟩, fun h => by cases h⟩
theorem md_X5_gets (rm : Room) : MD yX5_gets cX5_gets (2, none, [], false, rm) := ⟨Or.inl ⟨q1779, rfl⟩, plainFor_of_name (by decide), ⟨by decide, by decide⟩, fun h => by cases h⟩
theorem md_X5_works (rm : Room) : MD yX5_works cX5_works (6, none, [], false, rm) := ⟨Or.inl ⟨q1783, rfl⟩, plainFor_of_name (by decide), ⟨by decide, by decide⟩, fun h => by cases h⟩
theorem md_X5_lines (rm : Room) : MD yX5_lines cX5_lines (5, none, [], false, rm) := ⟨Or.inl ⟨q1787, rfl⟩, plainFor_of_name (by decide), ⟨by decide, by decide⟩, fun h => by cases h⟩
theorem md_X5_stateAt (rm : Room) : MD yX5_stateAt cX5_stateAt (1, (some .int), [], false, rm) := ⟨Or.inl ⟨q1790, rfl⟩, plainFor_of_name (by decide), ⟨by decide, by decide⟩, fun h => by cases h⟩
theorem md_X5_isAhead (rm : Room) : MD yX5_isAhead cX5_isAhead (4, (some .boolean), [], false, rm) := ⟨Or.inl ⟨q1794, rfl⟩, plainFor_of_name (by decide), ⟨by decide, by decide⟩, fun h => by cases h⟩
theorem md_X5_hasTicket (rm : Room) : MD yX5_hasTicket cX5_hasTicket (2, (some .boolean), [], false, rm) := ⟨Or.inl ⟨q1798, rfl⟩, plainFor_of_name (by decide), ⟨by decide, by decide⟩, fun h => by cases h⟩
theorem md_X5_takes (rm : Room) : MD yX5_takes cX5_takes (3, (some .int), [], false, rm) := ⟨Or.inl ⟨q1802, rfl⟩, plainFor_of_name (by decide), ⟨by decide, by decide⟩, fun h => by cases h⟩
theorem md_X5_canPrint (rm : Room) : MD yX5_canPrint cX5_canPrint (1, (some .boolean), [], false, rm) := ⟨Or.inl ⟨q1806, rfl⟩, plainFor_of_name (by decide), ⟨by decide, by decide⟩, fun h => by cases h⟩
theorem md_X5_does (rm : Room) : MD yX5_does cX5_does (3, none, [], false, rm) := ⟨Or.inl ⟨q1810, rfl⟩, plainFor_of_name (by decide), ⟨by decide, by decide⟩, fun h => by cases h⟩
theorem md_X5_prints (rm : Room) : MD yX5_prints cX5_prints (4, none, [], false, rm) := ⟨Or.inl ⟨q1814, rfl⟩, plainFor_of_name (by decide), ⟨by decide, by decide⟩, fun h => by cases h⟩
theorem md_X5_refuse (rm : Room) : MD yX5_refuse cX5_refuse (2, none, [], false, rm) := ⟨Or.inl ⟨q1818, rfl⟩, plainFor_of_name (by decide), ⟨by decide, by decide⟩, fun h => by cases h⟩
theorem md_X5_lose (rm : Room) : MD yX5_lose cX5_lose (3, none, [], false, rm) := ⟨Or.inl ⟨q1822, rfl⟩, plainFor_of_name (by decide), ⟨by decide, by decide⟩, fun h => by cases h⟩
theorem md_X5_again (rm : Room) : MD yX5_again cX5_again (2, none, [], false, rm) := ⟨Or.inl ⟨q1826, rfl⟩, plainFor_of_name (by decide), ⟨by decide, by decide⟩, fun h => by cases h⟩
theorem md_X5_led (rm : Room) : MD yX5_led cX5_led (3, (some .int), [], false, rm) := ⟨Or.inl ⟨q1830, rfl⟩, plainFor_of_name (by decide), ⟨by decide, by decide⟩, fun h => by cases h⟩
theorem md_X5_queue (rm : Room) : MD yX5_queue cX5_queue (2, (some .int), [], false, rm) := ⟨Or.inl ⟨q1834, rfl⟩, plainFor_of_name (by decide), ⟨by decide, by decide⟩, fun h => by cases h⟩
theorem md_X5_ahead (rm : Room) : MD yX5_ahead cX5_ahead (5, (some .int), [], false, rm) := ⟨Or.inl ⟨q1838, rfl⟩, plainFor_of_name (by decide), ⟨by decide, by decide⟩, fun h => by cases h⟩
theorem md_X5_booklet (rm : Room) : MD yX5_booklet cX5_booklet (3, (some .int), [], false, rm) := ⟨Or.inl ⟨q1842, rfl⟩, plainFor_of_name (by decide), ⟨by decide, by decide⟩, fun h => by cases h⟩
theorem md_X5_valid (rm : Room) : MD yX5_valid cX5_valid (3, (some .int), [], false, rm) := ⟨Or.inl ⟨q1846, rfl⟩, plainFor_of_name (by decide), ⟨by decide, by decide⟩, fun h => by cases h⟩
theorem md_X5_missed (rm : Room) : MD yX5_missed cX5_missed (12, (some .int), [], false, rm) := ⟨Or.inl ⟨q1850, rfl⟩, plainFor_of_name (by decide), ⟨by decide, by decide⟩, fun h => by cases h⟩
theorem md_X5_waits (rm : Room) : MD yX5_waits cX5_waits (9, (some .int), [], false, rm) := ⟨Or.inl ⟨q1854, rfl⟩, plainFor_of_name (by decide), ⟨by decide, by decide⟩, fun h => by cases h⟩
theorem md_X5_ends (rm : Room) : MD yX5_ends cX5_ends (5, (some .int), [], false, rm) := ⟨Or.inl ⟨q1858, rfl⟩, plainFor_of_name (by decide), ⟨by decide, by decide⟩, fun h => by cases h⟩
theorem md_X5_count (rm : Room) : MD yX5_count cX5_count (2, (some .int), [], false, rm) := ⟨Or.inl ⟨q1862, rfl⟩, plainFor_of_name (by decide), ⟨by decide, by decide⟩, fun h => by cases h⟩
theorem md_X5_inState (rm : Room) : MD yX5_inState cX5_inState (5, (some .int), [], false, rm) := ⟨Or.inl ⟨q1866, rfl⟩, plainFor_of_name (by decide), ⟨by decide, by decide⟩, fun h => by cases h⟩
theorem md_J11_min (rm : Room) : MD yJ11_min cJ11_min (2, (some .int), [], false, rm) := ⟨Or.inl ⟨q882, rfl⟩, (by decide +kernel), ⟨by decide, by decide⟩, fun h => by cases h⟩
theorem md_J11_max (rm : Room) : MD yJ11_max cJ11_max (2, (some .int), [], false, rm) := ⟨Or.inl ⟨q885, rfl⟩, (by decide +kernel), ⟨by decide, by decide⟩, fun h => by cases h⟩
theorem md_J11_floorDiv (rm : Room) : MD yJ11_floorDiv cJ11_floorDiv (3, (some .int), [], false, rm) := ⟨Or.inl ⟨q1722, rfl⟩, (by decide +kernel), ⟨by decide, by decide⟩, fun h => by cases h⟩
