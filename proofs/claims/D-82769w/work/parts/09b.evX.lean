/-! evidence: what pool entries name; what calls run: X1 -/
set_option maxRecDepth 100000
theorem fl_X1_10 : FL RX1 10 0 0 true := ⟨_, rfl, Nat.le_of_ble_eq_true rfl, rfl, Or.inl q306⟩
theorem ff_X1_10 : FF RX1 10 0 0 := ⟨_, rfl, Nat.le_of_ble_eq_true rfl, rfl, rfl, q306⟩
theorem fl_X1_18 : FL RX1 18 0 1 true := ⟨_, rfl, Nat.le_of_ble_eq_true rfl, rfl, Or.inl q307⟩
theorem ff_X1_18 : FF RX1 18 0 1 := ⟨_, rfl, Nat.le_of_ble_eq_true rfl, rfl, rfl, q307⟩
theorem fl_X1_24 : FL RX1 24 0 2 true := ⟨_, rfl, Nat.le_of_ble_eq_true rfl, rfl, Or.inl q308⟩
theorem ff_X1_24 : FF RX1 24 0 2 := ⟨_, rfl, Nat.le_of_ble_eq_true rfl, rfl, rfl, q308⟩
theorem fl_X1_30 : FL RX1 30 0 3 true := ⟨_, rfl, Nat.le_of_ble_eq_true rfl, rfl, Or.inl q309⟩
theorem ff_X1_30 : FF RX1 30 0 3 := ⟨_, rfl, Nat.le_of_ble_eq_true rfl, rfl, rfl, q309⟩
theorem fl_X1_35 : FL RX1 35 0 4 true := ⟨_, rfl, Nat.le_of_ble_eq_true rfl, rfl, Or.inl q310⟩
theorem ff_X1_35 : FF RX1 35 0 4 := ⟨_, rfl, Nat.le_of_ble_eq_true rfl, rfl, rfl, q310⟩
theorem fl_X1_42 : FL RX1 42 0 5 true := ⟨_, rfl, Nat.le_of_ble_eq_true rfl, rfl, Or.inl q311⟩
theorem ff_X1_42 : FF RX1 42 0 5 := ⟨_, rfl, Nat.le_of_ble_eq_true rfl, rfl, rfl, q311⟩
theorem fl_X1_46 : FL RX1 46 0 6 true := ⟨_, rfl, Nat.le_of_ble_eq_true rfl, rfl, Or.inl q312⟩
theorem ff_X1_46 : FF RX1 46 0 6 := ⟨_, rfl, Nat.le_of_ble_eq_true rfl, rfl, rfl, q312⟩
theorem fl_X1_51 : FL RX1 51 0 7 true := ⟨_, rfl, Nat.le_of_ble_eq_true rfl, rfl, Or.inl q313⟩
theorem ff_X1_51 : FF RX1 51 0 7 := ⟨_, rfl, Nat.le_of_ble_eq_true rfl, rfl, rfl, q313⟩
theorem fl_X1_57 : FL RX1 57 0 8 true := ⟨_, rfl, Nat.le_of_ble_eq_true rfl, rfl, Or.inl q314⟩
theorem ff_X1_57 : FF RX1 57 0 8 := ⟨_, rfl, Nat.le_of_ble_eq_true rfl, rfl, rfl, q314⟩
theorem fl_X1_61 : FL RX1 61 0 9 true := ⟨_, rfl, Nat.le_of_ble_eq_true rfl, rfl, Or.inl q315⟩
theorem ff_X1_61 : FF RX1 61 0 9 := ⟨_, rfl, Nat.le_of_ble_eq_true rfl, rfl, rfl, q315⟩
theorem fl_X1_65 : FL RX1 65 0 10 true := ⟨_, rfl, Nat.le_of_ble_eq_true rfl, rfl, Or.inl q316⟩
theorem ff_X1_65 : FF RX1 65 0 10 := ⟨_, rfl, Nat.le_of_ble_eq_true rfl, rfl, rfl, q316⟩
theorem fl_X1_68 : FL RX1 68 0 11 true := ⟨_, rfl, Nat.le_of_ble_eq_true rfl, rfl, Or.inl q317⟩
theorem ff_X1_68 : FF RX1 68 0 11 := ⟨_, rfl, Nat.le_of_ble_eq_true rfl, rfl, rfl, q317⟩
theorem fl_X1_71 : FL RX1 71 0 12 true := ⟨_, rfl, Nat.le_of_ble_eq_true rfl, rfl, Or.inl q318⟩
theorem ff_X1_71 : FF RX1 71 0 12 := ⟨_, rfl, Nat.le_of_ble_eq_true rfl, rfl, rfl, q318⟩
theorem fl_X1_74 : FL RX1 74 0 17 false := ⟨_, rfl, Nat.le_of_ble_eq_true rfl, rfl, Or.inl q323⟩
theorem fl_X1_78 : FL RX1 78 0 18 false := ⟨_, rfl, Nat.le_of_ble_eq_true rfl, rfl, Or.inl q324⟩
theorem fl_X1_81 : FL RX1 81 0 19 false := ⟨_, rfl, Nat.le_of_ble_eq_true rfl, rfl, Or.inl q325⟩
theorem fl_X1_84 : FL RX1 84 0 20 false := ⟨_, rfl, Nat.le_of_ble_eq_true rfl, rfl, Or.inl q326⟩
theorem fl_X1_87 : FL RX1 87 0 21 false := ⟨_, rfl, Nat.le_of_ble_eq_true rfl, rfl, Or.inl q327⟩
theorem fl_X1_90 : FL RX1 90 0 23 false := ⟨_, rfl, Nat.le_of_ble_eq_true rfl, rfl, Or.inl q329⟩
theorem fl_X1_93 : FL RX1 93 0 24 false := ⟨_, rfl, Nat.le_of_ble_eq_true rfl, rfl, Or.inl q330⟩
theorem fl_X1_96 : FL RX1 96 0 28 false := ⟨_, rfl, Nat.le_of_ble_eq_true rfl, rfl, Or.inl q334⟩
theorem fl_X1_111 : FL RX1 111 0 14 false := ⟨_, rfl, Nat.le_of_ble_eq_true rfl, rfl, Or.inl q320⟩
theorem fl_X1_122 : FL RX1 122 0 15 false := ⟨_, rfl, Nat.le_of_ble_eq_true rfl, rfl, Or.inl q321⟩
theorem fl_X1_125 : FL RX1 125 1 0 true := ⟨_, rfl, Nat.le_of_ble_eq_true rfl, rfl, Or.inr ⟨_, q223⟩⟩
theorem fl_X1_129 : FL RX1 129 1 7 false := ⟨_, rfl, Nat.le_of_ble_eq_true rfl, rfl, Or.inr ⟨_, q231⟩⟩
theorem fl_X1_140 : FL RX1 140 3 1 false := ⟨_, rfl, Nat.le_of_ble_eq_true rfl, rfl, Or.inr ⟨_, q280⟩⟩
theorem fl_X1_152 : FL RX1 152 2 6 false := ⟨_, rfl, Nat.le_of_ble_eq_true rfl, rfl, Or.inr ⟨_, q205⟩⟩
theorem fl_X1_155 : FL RX1 155 0 13 false := ⟨_, rfl, Nat.le_of_ble_eq_true rfl, rfl, Or.inl q319⟩
theorem fl_X1_161 : FL RX1 161 9 1 true := ⟨_, rfl, Nat.le_of_ble_eq_true rfl, rfl, Or.inr ⟨_, q640⟩⟩
theorem fl_X1_164 : FL RX1 164 9 0 true := ⟨_, rfl, Nat.le_of_ble_eq_true rfl, rfl, Or.inr ⟨_, q638⟩⟩
theorem fl_X1_167 : FL RX1 167 3 5 false := ⟨_, rfl, Nat.le_of_ble_eq_true rfl, rfl, Or.inr ⟨_, q288⟩⟩
theorem fl_X1_169 : FL RX1 169 15 0 true := ⟨_, rfl, Nat.le_of_ble_eq_true rfl, rfl, Or.inr ⟨_, q1155⟩⟩
theorem fl_X1_183 : FL RX1 183 10 0 true := ⟨_, rfl, Nat.le_of_ble_eq_true rfl, rfl, Or.inr ⟨_, q681⟩⟩
theorem fl_X1_190 : FL RX1 190 10 1 true := ⟨_, rfl, Nat.le_of_ble_eq_true rfl, rfl, Or.inr ⟨_, q683⟩⟩
theorem fl_X1_209 : FL RX1 209 1 5 true := ⟨_, rfl, Nat.le_of_ble_eq_true rfl, rfl, Or.inr ⟨_, q229⟩⟩
theorem fl_X1_212 : FL RX1 212 10 3 false := ⟨_, rfl, Nat.le_of_ble_eq_true rfl, rfl, Or.inr ⟨_, q685⟩⟩
theorem fl_X1_218 : FL RX1 218 12 1 true := ⟨_, rfl, Nat.le_of_ble_eq_true rfl, rfl, Or.inr ⟨_, q919⟩⟩
theorem fl_X1_222 : FL RX1 222 12 6 true := ⟨_, rfl, Nat.le_of_ble_eq_true rfl, rfl, Or.inr ⟨_, q929⟩⟩
theorem fl_X1_226 : FL RX1 226 11 5 false := ⟨_, rfl, Nat.le_of_ble_eq_true rfl, rfl, Or.inr ⟨_, q838⟩⟩
theorem fl_X1_229 : FL RX1 229 11 3 false := ⟨_, rfl, Nat.le_of_ble_eq_true rfl, rfl, Or.inr ⟨_, q833⟩⟩
theorem fl_X1_232 : FL RX1 232 3 0 true := ⟨_, rfl, Nat.le_of_ble_eq_true rfl, rfl, Or.inr ⟨_, q278⟩⟩
theorem fl_X1_236 : FL RX1 236 13 0 false := ⟨_, rfl, Nat.le_of_ble_eq_true rfl, rfl, Or.inr ⟨_, q952⟩⟩
theorem fl_X1_252 : FL RX1 252 11 0 false := ⟨_, rfl, Nat.le_of_ble_eq_true rfl, rfl, Or.inr ⟨_, q826⟩⟩
theorem fl_X1_255 : FL RX1 255 11 1 false := ⟨_, rfl, Nat.le_of_ble_eq_true rfl, rfl, Or.inr ⟨_, q828⟩⟩
theorem fl_X1_258 : FL RX1 258 11 2 false := ⟨_, rfl, Nat.le_of_ble_eq_true rfl, rfl, Or.inr ⟨_, q831⟩⟩
theorem fl_X1_261 : FL RX1 261 11 4 false := ⟨_, rfl, Nat.le_of_ble_eq_true rfl, rfl, Or.inr ⟨_, q836⟩⟩
theorem fl_X1_274 : FL RX1 274 13 1 false := ⟨_, rfl, Nat.le_of_ble_eq_true rfl, rfl, Or.inr ⟨_, q954⟩⟩
theorem fl_X1_277 : FL RX1 277 0 25 false := ⟨_, rfl, Nat.le_of_ble_eq_true rfl, rfl, Or.inl q331⟩
theorem fl_X1_280 : FL RX1 280 12 0 true := ⟨_, rfl, Nat.le_of_ble_eq_true rfl, rfl, Or.inr ⟨_, q917⟩⟩
theorem fl_X1_294 : FL RX1 294 13 2 false := ⟨_, rfl, Nat.le_of_ble_eq_true rfl, rfl, Or.inr ⟨_, q956⟩⟩
theorem fl_X1_297 : FL RX1 297 15 3 false := ⟨_, rfl, Nat.le_of_ble_eq_true rfl, rfl, Or.inr ⟨_, q1161⟩⟩
theorem fl_X1_305 : FL RX1 305 13 5 false := ⟨_, rfl, Nat.le_of_ble_eq_true rfl, rfl, Or.inr ⟨_, q962⟩⟩
theorem fl_X1_308 : FL RX1 308 12 2 true := ⟨_, rfl, Nat.le_of_ble_eq_true rfl, rfl, Or.inr ⟨_, q921⟩⟩
theorem fl_X1_311 : FL RX1 311 12 3 true := ⟨_, rfl, Nat.le_of_ble_eq_true rfl, rfl, Or.inr ⟨_, q923⟩⟩
theorem fl_X1_314 : FL RX1 314 12 4 true := ⟨_, rfl, Nat.le_of_ble_eq_true rfl, rfl, Or.inr ⟨_, q925⟩⟩
theorem fl_X1_317 : FL RX1 317 13 7 false := ⟨_, rfl, Nat.le_of_ble_eq_true rfl, rfl, Or.inr ⟨_, q966⟩⟩
theorem fl_X1_320 : FL RX1 320 13 3 false := ⟨_, rfl, Nat.le_of_ble_eq_true rfl, rfl, Or.inr ⟨_, q958⟩⟩
theorem fl_X1_323 : FL RX1 323 13 4 false := ⟨_, rfl, Nat.le_of_ble_eq_true rfl, rfl, Or.inr ⟨_, q960⟩⟩
theorem fl_X1_326 : FL RX1 326 13 6 false := ⟨_, rfl, Nat.le_of_ble_eq_true rfl, rfl, Or.inr ⟨_, q964⟩⟩
theorem fl_X1_332 : FL RX1 332 0 16 false := ⟨_, rfl, Nat.le_of_ble_eq_true rfl, rfl, Or.inl q322⟩
theorem fl_X1_338 : FL RX1 338 14 0 true := ⟨_, rfl, Nat.le_of_ble_eq_true rfl, rfl, Or.inr ⟨_, q1040⟩⟩
theorem fl_X1_350 : FL RX1 350 0 22 false := ⟨_, rfl, Nat.le_of_ble_eq_true rfl, rfl, Or.inl q328⟩
theorem fl_X1_353 : FL RX1 353 3 2 false := ⟨_, rfl, Nat.le_of_ble_eq_true rfl, rfl, Or.inr ⟨_, q282⟩⟩
theorem fl_X1_356 : FL RX1 356 12 5 true := ⟨_, rfl, Nat.le_of_ble_eq_true rfl, rfl, Or.inr ⟨_, q927⟩⟩
theorem fl_X1_374 : FL RX1 374 0 26 false := ⟨_, rfl, Nat.le_of_ble_eq_true rfl, rfl, Or.inl q332⟩
theorem fl_X1_384 : FL RX1 384 3 3 false := ⟨_, rfl, Nat.le_of_ble_eq_true rfl, rfl, Or.inr ⟨_, q284⟩⟩
theorem fl_X1_387 : FL RX1 387 3 4 false := ⟨_, rfl, Nat.le_of_ble_eq_true rfl, rfl, Or.inr ⟨_, q286⟩⟩
theorem fl_X1_410 : FL RX1 410 0 27 false := ⟨_, rfl, Nat.le_of_ble_eq_true rfl, rfl, Or.inl q333⟩
theorem fl_X1_413 : FL RX1 413 15 1 true := ⟨_, rfl, Nat.le_of_ble_eq_true rfl, rfl, Or.inr ⟨_, q1157⟩⟩
theorem fl_X1_416 : FL RX1 416 15 2 true := ⟨_, rfl, Nat.le_of_ble_eq_true rfl, rfl, Or.inr ⟨_, q1159⟩⟩
theorem nw_X1_7 : NW RX1 7 1 12 := ⟨_, _, rfl, q114, q115, q75, by decide⟩
theorem nw_X1_22 : NW RX1 22 10 4 := ⟨_, _, rfl, q263, q675, q95, by decide⟩
theorem nw_X1_33 : NW RX1 33 12 7 := ⟨_, _, rfl, q267, q911, q101, by decide⟩
theorem nw_X1_39 : NW RX1 39 3 6 := ⟨_, _, rfl, q269, q270, q80, by decide⟩
theorem nw_X1_49 : NW RX1 49 15 4 := ⟨_, _, rfl, q302, q1149, q105, by decide⟩
theorem nw_X1_55 : NW RX1 55 14 5 := ⟨_, _, rfl, q304, q1034, q104, by decide⟩
theorem nw_X1_99 : NW RX1 99 16 6 := ⟨_, _, rfl, q447, q448, q82, by decide⟩
theorem nw_X1_102 : NW RX1 102 17 6 := ⟨_, _, rfl, q652, q653, q94, by decide⟩
theorem nw_X1_105 : NW RX1 105 18 6 := ⟨_, _, rfl, q741, q742, q96, by decide⟩
theorem nw_X1_108 : NW RX1 108 20 6 := ⟨_, _, rfl, q999, q1000, q103, by decide⟩
theorem nw_X1_180 : NW RX1 180 11 6 := ⟨_, _, rfl, q819, q820, q98, by decide⟩
theorem nw_X1_237 : NW RX1 237 13 8 := ⟨_, _, rfl, q945, q946, q102, by decide⟩
theorem nw_X1_264 : NW RX1 264 19 6 := ⟨_, _, rfl, q886, q887, q100, by decide⟩
theorem cs_X1_114 : CS RX1 114 yX1_isIn 3 := ⟨q407, q408, q74, by decide +kernel⟩
theorem cs_X1_118 : CS RX1 118 yX1_mustBe 1 := ⟨q738, q739, q74, by decide +kernel⟩
theorem cs_X1_143 : CS RX1 143 yX1_must 1 := ⟨q444, q445, q74, by decide +kernel⟩
theorem cs_X1_158 : CS RX1 158 yX1_mayBe 1 := ⟨q649, q650, q74, by decide +kernel⟩
theorem cs_X1_267 : CS RX1 267 yX1_isItems 1 := ⟨q908, q909, q74, by decide +kernel⟩
theorem cs_X1_287 : CS RX1 287 yX1_may 1 := ⟨q996, q997, q74, by decide +kernel⟩
theorem cs_X1_290 : CS RX1 290 yX1_lacks 2 := ⟨q1014, q1015, q74, by decide +kernel⟩
theorem cs_X1_300 : CS RX1 300 yJ11_min 2 := ⟨q1185, q881, q99, by decide +kernel⟩
theorem cs_X1_329 : CS RX1 329 yX1_isDesk 1 := ⟨q1024, q1025, q74, by decide +kernel⟩
theorem cs_X1_344 : CS RX1 344 yJ11_max 2 := ⟨q1071, q884, q99, by decide +kernel⟩
theorem cs_X1_359 : CS RX1 359 yX1_hasTicket 1 := ⟨q1134, q1135, q74, by decide +kernel⟩
theorem cs_X1_363 : CS RX1 363 yX1_deskOf 1 := ⟨q1127, q1128, q74, by decide +kernel⟩
theorem cv_X1_132 : CV RX1 132 0 yX1_four 1 := ⟨_, rfl, q399, q401, qs1, by decide +kernel⟩
theorem cv_X1_136 : CV RX1 136 0 yX1_use 0 := ⟨_, rfl, q440, q442, qs4, by decide +kernel⟩
theorem cv_X1_146 : CV RX1 146 1 yX2_law 2 := ⟨_, rfl, q468, q469, q470, by decide +kernel⟩
theorem cv_X1_172 : CV RX1 172 15 yX17_isValid 1 := ⟨_, rfl, q856, q857, q858, by decide +kernel⟩
theorem cv_X1_176 : CV RX1 176 0 yX1_lawOf 1 := ⟨_, rfl, q422, q424, qs2, by decide +kernel⟩
theorem cv_X1_186 : CV RX1 186 0 yX1_validOf 2 := ⟨_, rfl, q852, q854, qs20, by decide +kernel⟩
theorem cv_X1_193 : CV RX1 193 9 yX11_rules 1 := ⟨_, rfl, q860, q861, q862, by decide +kernel⟩
theorem cv_X1_201 : CV RX1 201 0 yX1_personAt 1 := ⟨_, rfl, q734, q736, qs15, by decide +kernel⟩
theorem cv_X1_205 : CV RX1 205 1 yX2_name 1 := ⟨_, rfl, q756, q757, q758, by decide +kernel⟩
theorem cv_X1_214 : CV RX1 214 10 yX12_far 1 := ⟨_, rfl, q784, q785, q786, by decide +kernel⟩
theorem cv_X1_219 : CV RX1 219 0 yX1_face 1 := ⟨_, rfl, q799, q801, qs17, by decide +kernel⟩
theorem cv_X1_241 : CV RX1 241 0 yX1_behindCheck 1 := ⟨_, rfl, q795, q797, qs16, by decide +kernel⟩
theorem cv_X1_245 : CV RX1 245 0 yX1_isAsked 2 := ⟨_, rfl, q811, q813, qs18, by decide +kernel⟩
theorem cv_X1_249 : CV RX1 249 0 yX1_ruling 4 := ⟨_, rfl, q815, q817, qs19, by decide +kernel⟩
theorem cv_X1_283 : CV RX1 283 0 yX1_askingAt 1 := ⟨_, rfl, q992, q994, qs21, by decide +kernel⟩
theorem cv_X1_341 : CV RX1 341 14 yX16_units 1 := ⟨_, rfl, q1067, q1068, q1069, by decide +kernel⟩
theorem cv_X1_347 : CV RX1 347 0 yX1_unitsOf 2 := ⟨_, rfl, q1063, q1065, qs22, by decide +kernel⟩
theorem cv_X1_366 : CV RX1 366 0 yX1_isAhead 4 := ⟨_, rfl, q1130, q1132, qs28, by decide +kernel⟩
theorem cv_X1_370 : CV RX1 370 0 yX1_line 3 := ⟨_, rfl, q1123, q1125, qs27, by decide +kernel⟩
theorem cv_X1_376 : CV RX1 376 0 yX1_gets 2 := ⟨_, rfl, q1111, q1113, qs24, by decide +kernel⟩
theorem cv_X1_380 : CV RX1 380 0 yX1_callsOf 1 := ⟨_, rfl, q1115, q1117, qs25, by decide +kernel⟩
theorem cv_X1_390 : CV RX1 390 0 yX1_work 4 := ⟨_, rfl, q1119, q1121, qs26, by decide +kernel⟩
theorem cv_X1_394 : CV RX1 394 0 yX1_costs 3 := ⟨_, rfl, q1137, q1139, qs29, by decide +kernel⟩
theorem cv_X1_397 : CV RX1 397 0 yX1_does 3 := ⟨_, rfl, q1141, q1143, qs30, by decide +kernel⟩
theorem cv_X1_401 : CV RX1 401 0 yX1_print 2 := ⟨_, rfl, q1145, q1147, qs31, by decide +kernel⟩
theorem cv_X1_407 : CV RX1 407 0 yX1_day 2 := ⟨_, rfl, q1107, q1109, qs23, by decide +kernel⟩
theorem cv_X1_419 : CV RX1 419 3 yX4_be 2 := ⟨_, rfl, q1235, q1236, q1237, by decide +kernel⟩
theorem cv_X1_422 : CV RX1 422 0 yX1_isGotAhead 2 := ⟨_, rfl, q1251, q1253, qs32, by decide +kernel⟩
theorem cv_X1_426 : CV RX1 426 0 yX1_inState 2 := ⟨_, rfl, q426, q428, qs3, by decide +kernel⟩
theorem co_X1_1 : CO RX1 1 := ⟨q111, q112, q113⟩
theorem ci_X1_9 : CI RX1 9 yX2_init 0 := ⟨Or.inr ⟨_, q116⟩, q117, rfl, ⟨_, _, q118⟩, by decide +kernel⟩
theorem ci_X1_41 : CI RX1 41 yX4_init 0 := ⟨Or.inr ⟨_, q271⟩, q272, rfl, ⟨_, _, q273⟩, by decide +kernel⟩
theorem ci_X1_101 : CI RX1 101 yJ3_init 0 := ⟨Or.inl q456, q457, rfl, ⟨_, _, q458⟩, by decide +kernel⟩
theorem ci_X1_104 : CI RX1 104 yJ8_init 0 := ⟨Or.inl q661, q662, rfl, ⟨_, _, q663⟩, by decide +kernel⟩
theorem ci_X1_107 : CI RX1 107 yJ9_init_2 0 := ⟨Or.inl q750, q751, rfl, ⟨_, _, q752⟩, by decide +kernel⟩
theorem ci_X1_110 : CI RX1 110 yJ13_init 0 := ⟨Or.inl q1008, q1009, rfl, ⟨_, _, q1010⟩, by decide +kernel⟩
theorem ci_X1_182 : CI RX1 182 yX13_init 0 := ⟨Or.inr ⟨_, q821⟩, q822, rfl, ⟨_, _, q823⟩, by decide +kernel⟩
theorem ci_X1_198 : CI RX1 198 yX12_init 3 := ⟨Or.inl q676, q677, rfl, ⟨_, _, q678⟩, by decide +kernel⟩
theorem ci_X1_266 : CI RX1 266 yJ12_init 0 := ⟨Or.inl q895, q896, rfl, ⟨_, _, q897⟩, by decide +kernel⟩
theorem ci_X1_270 : CI RX1 270 yX14_init 7 := ⟨Or.inl q912, q913, rfl, ⟨_, _, q914⟩, by decide +kernel⟩
theorem ci_X1_273 : CI RX1 273 yX15_init 0 := ⟨Or.inr ⟨_, q947⟩, q948, rfl, ⟨_, _, q949⟩, by decide +kernel⟩
theorem ci_X1_335 : CI RX1 335 yX16_init 5 := ⟨Or.inl q1035, q1036, rfl, ⟨_, _, q1037⟩, by decide +kernel⟩
theorem ci_X1_404 : CI RX1 404 yX17_init 4 := ⟨Or.inl q1150, q1151, rfl, ⟨_, _, q1152⟩, by decide +kernel⟩
theorem ex_X1_99_101 : EX RX1 99 101 16 "java/lang/IllegalArgumentException" ["java/lang/RuntimeException", "java/lang/Exception"] := ⟨⟨_, rfl⟩, q447, q448, q82, by decide +kernel, by decide +kernel, by decide +kernel⟩
theorem ex_X1_102_104 : EX RX1 102 104 17 "java/lang/UnsupportedOperationException" ["java/lang/RuntimeException", "java/lang/Exception"] := ⟨⟨_, rfl⟩, q652, q653, q94, by decide +kernel, by decide +kernel, by decide +kernel⟩
theorem ex_X1_105_107 : EX RX1 105 107 18 "java/lang/IndexOutOfBoundsException" ["java/lang/RuntimeException", "java/lang/Exception"] := ⟨⟨_, rfl⟩, q741, q742, q96, by decide +kernel, by decide +kernel, by decide +kernel⟩
theorem ex_X1_264_266 : EX RX1 264 266 19 "java/util/NoSuchElementException" ["java/lang/RuntimeException", "java/lang/Exception"] := ⟨⟨_, rfl⟩, q886, q887, q100, by decide +kernel, by decide +kernel, by decide +kernel⟩
theorem ex_X1_108_110 : EX RX1 108 110 20 "java/lang/IllegalStateException" ["java/lang/RuntimeException", "java/lang/Exception"] := ⟨⟨_, rfl⟩, q999, q1000, q103, by decide +kernel, by decide +kernel, by decide +kernel⟩
theorem md_X1_init (rm : Room) : MD yX1_init cX1_init (2, none, [], true, rm) := ⟨Or.inl ⟨q110, rfl⟩, plainFor_of_name (by decide), ⟨by decide, by decide⟩, fun _ => rfl⟩
theorem md_X1_feed (rm : Room) : MD yX1_feed cX1_feed (6, (some .int), [], false, rm) := ⟨Or.inl ⟨q398, rfl⟩, plainFor_of_name (by decide), ⟨by decide, by decide⟩, fun h => by cases h⟩
theorem md_X1_four (rm : Room) : MD yX1_four cX1_four (3, none, [], false, rm) := ⟨Or.inl ⟨q402, rfl⟩, plainFor_of_name (by decide), ⟨by decide, by decide⟩, fun h => by cases h⟩
theorem md_X1_end (rm : Room) : MD yX1_end cX1_end (2, (some .boolean), [], false, rm) := ⟨Or.inl ⟨q406, rfl⟩, plainFor_of_name (by decide), ⟨by decide, by decide⟩, fun h => by cases h⟩
theorem md_X1_isIn (rm : Room) : MD yX1_isIn cX1_isIn (3, (some .boolean), [], false, rm) := ⟨Or.inl ⟨q409, rfl⟩, plainFor_of_name (by decide), ⟨by decide, by decide⟩, fun h => by cases h⟩
theorem md_X1_fault (rm : Room) : MD yX1_fault cX1_fault (1, (some .int), [], false, rm) := ⟨Or.inl ⟨q413, rfl⟩, plainFor_of_name (by decide), ⟨by decide, by decide⟩, fun h => by cases h⟩
theorem md_X1_ends (rm : Room) : MD yX1_ends cX1_ends (5, (some .int), [], false, rm) := ⟨Or.inl ⟨q417, rfl⟩, plainFor_of_name (by decide), ⟨by decide, by decide⟩, fun h => by cases h⟩
theorem md_X1_count (rm : Room) : MD yX1_count cX1_count (3, (some .int), [], false, rm) := ⟨Or.inl ⟨q421, rfl⟩, plainFor_of_name (by decide), ⟨by decide, by decide⟩, fun h => by cases h⟩
theorem md_X1_lawOf (rm : Room) : MD yX1_lawOf cX1_lawOf (4, (some (.object "PassportOffice$Law")), [], false, rm) := ⟨Or.inl ⟨q425, rfl⟩, plainFor_of_name (by decide), ⟨by decide, by decide⟩, fun h => by cases h⟩
theorem md_X1_inState (rm : Room) : MD yX1_inState cX1_inState (5, (some .int), [], false, rm) := ⟨Or.inl ⟨q429, rfl⟩, plainFor_of_name (by decide), ⟨by decide, by decide⟩, fun h => by cases h⟩
theorem md_X1_law (rm : Room) : MD yX1_law cX1_law (5, (some .int), [(27, 37, 40, 150)], false, rm) := ⟨Or.inr q438, plainFor_of_name (by decide), ⟨by decide, by decide⟩, fun h => by cases h⟩
theorem md_X1_use (rm : Room) : MD yX1_use cX1_use (2, (some .int), [], false, rm) := ⟨Or.inl ⟨q443, rfl⟩, plainFor_of_name (by decide), ⟨by decide, by decide⟩, fun h => by cases h⟩
theorem md_X1_must (rm : Room) : MD yX1_must cX1_must (1, none, [], false, rm) := ⟨Or.inl ⟨q446, rfl⟩, plainFor_of_name (by decide), ⟨by decide, by decide⟩, fun h => by cases h⟩
theorem md_X1_mayBe (rm : Room) : MD yX1_mayBe cX1_mayBe (1, none, [], false, rm) := ⟨Or.inl ⟨q651, rfl⟩, plainFor_of_name (by decide), ⟨by decide, by decide⟩, fun h => by cases h⟩
theorem md_X1_person (rm : Room) : MD yX1_person cX1_person (11, (some .int), [], false, rm) := ⟨Or.inl ⟨q673, rfl⟩, plainFor_of_name (by decide), ⟨by decide, by decide⟩, fun h => by cases h⟩
theorem md_X1_name (rm : Room) : MD yX1_name cX1_name (7, (some .int), [(16, 26, 29, 150)], false, rm) := ⟨Or.inr q733, plainFor_of_name (by decide), ⟨by decide, by decide⟩, fun h => by cases h⟩
theorem md_X1_personAt (rm : Room) : MD yX1_personAt cX1_personAt (2, (some (.object "PassportOffice$Person")), [], false, rm) := ⟨Or.inl ⟨q737, rfl⟩, plainFor_of_name (by decide), ⟨by decide, by decide⟩, fun h => by cases h⟩
theorem md_X1_mustBe (rm : Room) : MD yX1_mustBe cX1_mustBe (1, none, [], false, rm) := ⟨Or.inl ⟨q740, rfl⟩, plainFor_of_name (by decide), ⟨by decide, by decide⟩, fun h => by cases h⟩
theorem md_X1_sign (rm : Room) : MD yX1_sign cX1_sign (4, (some .int), [], false, rm) := ⟨Or.inl ⟨q769, rfl⟩, plainFor_of_name (by decide), ⟨by decide, by decide⟩, fun h => by cases h⟩
theorem md_X1_figure (rm : Room) : MD yX1_figure cX1_figure (6, (some .int), [], false, rm) := ⟨Or.inl ⟨q776, rfl⟩, plainFor_of_name (by decide), ⟨by decide, by decide⟩, fun h => by cases h⟩
theorem md_X1_far (rm : Room) : MD yX1_far cX1_far (3, (some .int), [], false, rm) := ⟨Or.inl ⟨q783, rfl⟩, plainFor_of_name (by decide), ⟨by decide, by decide⟩, fun h => by cases h⟩
theorem md_X1_tell (rm : Room) : MD yX1_tell cX1_tell (7, (some .int), [], false, rm) := ⟨Or.inl ⟨q794, rfl⟩, plainFor_of_name (by decide), ⟨by decide, by decide⟩, fun h => by cases h⟩
theorem md_X1_behindCheck (rm : Room) : MD yX1_behindCheck cX1_behindCheck (3, (some .int), [], false, rm) := ⟨Or.inl ⟨q798, rfl⟩, plainFor_of_name (by decide), ⟨by decide, by decide⟩, fun h => by cases h⟩
theorem md_X1_face (rm : Room) : MD yX1_face cX1_face (4, (some .int), [], false, rm) := ⟨Or.inl ⟨q802, rfl⟩, plainFor_of_name (by decide), ⟨by decide, by decide⟩, fun h => by cases h⟩
theorem md_X1_judge (rm : Room) : MD yX1_judge cX1_judge (8, (some .int), [], false, rm) := ⟨Or.inl ⟨q810, rfl⟩, plainFor_of_name (by decide), ⟨by decide, by decide⟩, fun h => by cases h⟩
theorem md_X1_isAsked (rm : Room) : MD yX1_isAsked cX1_isAsked (3, none, [], false, rm) := ⟨Or.inl ⟨q814, rfl⟩, plainFor_of_name (by decide), ⟨by decide, by decide⟩, fun h => by cases h⟩
theorem md_X1_ruling (rm : Room) : MD yX1_ruling cX1_ruling (8, (some (.object "PassportOffice$Ruling")), [], false, rm) := ⟨Or.inl ⟨q818, rfl⟩, plainFor_of_name (by decide), ⟨by decide, by decide⟩, fun h => by cases h⟩
theorem md_X1_validOf (rm : Room) : MD yX1_validOf cX1_validOf (5, (some .int), [], false, rm) := ⟨Or.inl ⟨q855, rfl⟩, plainFor_of_name (by decide), ⟨by decide, by decide⟩, fun h => by cases h⟩
theorem md_X1_ask (rm : Room) : MD yX1_ask cX1_ask (9, (some .int), [], false, rm) := ⟨Or.inl ⟨q907, rfl⟩, plainFor_of_name (by decide), ⟨by decide, by decide⟩, fun h => by cases h⟩
theorem md_X1_isItems (rm : Room) : MD yX1_isItems cX1_isItems (1, none, [], false, rm) := ⟨Or.inl ⟨q910, rfl⟩, plainFor_of_name (by decide), ⟨by decide, by decide⟩, fun h => by cases h⟩
theorem md_X1_give (rm : Room) : MD yX1_give cX1_give (5, (some .int), [], false, rm) := ⟨Or.inl ⟨q991, rfl⟩, plainFor_of_name (by decide), ⟨by decide, by decide⟩, fun h => by cases h⟩
theorem md_X1_askingAt (rm : Room) : MD yX1_askingAt cX1_askingAt (2, (some (.object "PassportOffice$Asking")), [], false, rm) := ⟨Or.inl ⟨q995, rfl⟩, plainFor_of_name (by decide), ⟨by decide, by decide⟩, fun h => by cases h⟩
theorem md_X1_may (rm : Room) : MD yX1_may cX1_may (1, none, [], false, rm) := ⟨Or.inl ⟨q998, rfl⟩, plainFor_of_name (by decide), ⟨by decide, by decide⟩, fun h => by cases h⟩
theorem md_X1_lacks (rm : Room) : MD yX1_lacks cX1_lacks (2, (some .int), [], false, rm) := ⟨Or.inl ⟨q1016, rfl⟩, plainFor_of_name (by decide), ⟨by decide, by decide⟩, fun h => by cases h⟩
theorem md_X1_hands (rm : Room) : MD yX1_hands cX1_hands (3, none, [], false, rm) := ⟨Or.inl ⟨q1023, rfl⟩, plainFor_of_name (by decide), ⟨by decide, by decide⟩, fun h => by cases h⟩
theorem md_X1_isDesk (rm : Room) : MD yX1_isDesk cX1_isDesk (1, none, [], false, rm) := ⟨Or.inl ⟨q1026, rfl⟩, plainFor_of_name (by decide), ⟨by decide, by decide⟩, fun h => by cases h⟩
theorem md_X1_lend (rm : Room) : MD yX1_lend cX1_lend (6, (some .int), [], false, rm) := ⟨Or.inl ⟨q1033, rfl⟩, plainFor_of_name (by decide), ⟨by decide, by decide⟩, fun h => by cases h⟩
theorem md_X1_units (rm : Room) : MD yX1_units cX1_units (3, (some .int), [], false, rm) := ⟨Or.inl ⟨q1062, rfl⟩, plainFor_of_name (by decide), ⟨by decide, by decide⟩, fun h => by cases h⟩
theorem md_X1_unitsOf (rm : Room) : MD yX1_unitsOf cX1_unitsOf (5, (some .int), [], false, rm) := ⟨Or.inl ⟨q1066, rfl⟩, plainFor_of_name (by decide), ⟨by decide, by decide⟩, fun h => by cases h⟩
theorem md_X1_rules (rm : Room) : MD yX1_rules cX1_rules (6, none, [], false, rm) := ⟨Or.inl ⟨q1078, rfl⟩, plainFor_of_name (by decide), ⟨by decide, by decide⟩, fun h => by cases h⟩
theorem md_X1_order (rm : Room) : MD yX1_order cX1_order (2, none, [], false, rm) := ⟨Or.inl ⟨q1085, rfl⟩, plainFor_of_name (by decide), ⟨by decide, by decide⟩, fun h => by cases h⟩
theorem md_X1_blanks (rm : Room) : MD yX1_blanks cX1_blanks (2, (some .int), [], false, rm) := ⟨Or.inl ⟨q1092, rfl⟩, plainFor_of_name (by decide), ⟨by decide, by decide⟩, fun h => by cases h⟩
theorem md_X1_broken (rm : Room) : MD yX1_broken cX1_broken (3, none, [], false, rm) := ⟨Or.inl ⟨q1099, rfl⟩, plainFor_of_name (by decide), ⟨by decide, by decide⟩, fun h => by cases h⟩
theorem md_X1_days (rm : Room) : MD yX1_days cX1_days (3, (some .int), [], false, rm) := ⟨Or.inl ⟨q1106, rfl⟩, plainFor_of_name (by decide), ⟨by decide, by decide⟩, fun h => by cases h⟩
theorem md_X1_day (rm : Room) : MD yX1_day cX1_day (5, none, [], false, rm) := ⟨Or.inl ⟨q1110, rfl⟩, plainFor_of_name (by decide), ⟨by decide, by decide⟩, fun h => by cases h⟩
theorem md_X1_gets (rm : Room) : MD yX1_gets cX1_gets (5, none, [], false, rm) := ⟨Or.inl ⟨q1114, rfl⟩, plainFor_of_name (by decide), ⟨by decide, by decide⟩, fun h => by cases h⟩
theorem md_X1_callsOf (rm : Room) : MD yX1_callsOf cX1_callsOf (4, (some .int), [], false, rm) := ⟨Or.inl ⟨q1118, rfl⟩, plainFor_of_name (by decide), ⟨by decide, by decide⟩, fun h => by cases h⟩
theorem md_X1_work (rm : Room) : MD yX1_work cX1_work (11, (some .int), [], false, rm) := ⟨Or.inl ⟨q1122, rfl⟩, plainFor_of_name (by decide), ⟨by decide, by decide⟩, fun h => by cases h⟩
theorem md_X1_line (rm : Room) : MD yX1_line cX1_line (7, (some .int), [], false, rm) := ⟨Or.inl ⟨q1126, rfl⟩, plainFor_of_name (by decide), ⟨by decide, by decide⟩, fun h => by cases h⟩
theorem md_X1_deskOf (rm : Room) : MD yX1_deskOf cX1_deskOf (1, (some .int), [], false, rm) := ⟨Or.inl ⟨q1129, rfl⟩, plainFor_of_name (by decide), ⟨by decide, by decide⟩, fun h => by cases h⟩
theorem md_X1_isAhead (rm : Room) : MD yX1_isAhead cX1_isAhead (10, (some .boolean), [], false, rm) := ⟨Or.inl ⟨q1133, rfl⟩, plainFor_of_name (by decide), ⟨by decide, by decide⟩, fun h => by cases h⟩
theorem md_X1_hasTicket (rm : Room) : MD yX1_hasTicket cX1_hasTicket (1, (some .boolean), [], false, rm) := ⟨Or.inl ⟨q1136, rfl⟩, plainFor_of_name (by decide), ⟨by decide, by decide⟩, fun h => by cases h⟩
theorem md_X1_costs (rm : Room) : MD yX1_costs cX1_costs (4, (some .int), [], false, rm) := ⟨Or.inl ⟨q1140, rfl⟩, plainFor_of_name (by decide), ⟨by decide, by decide⟩, fun h => by cases h⟩
theorem md_X1_does (rm : Room) : MD yX1_does cX1_does (6, none, [], false, rm) := ⟨Or.inl ⟨q1144, rfl⟩, plainFor_of_name (by decide), ⟨by decide, by decide⟩, fun h => by cases h⟩
theorem md_X1_print (rm : Room) : MD yX1_print cX1_print (6, none, [], false, rm) := ⟨Or.inl ⟨q1148, rfl⟩, plainFor_of_name (by decide), ⟨by decide, by decide⟩, fun h => by cases h⟩
theorem md_X1_refuse (rm : Room) : MD yX1_refuse cX1_refuse (4, none, [], false, rm) := ⟨Or.inl ⟨q1177, rfl⟩, plainFor_of_name (by decide), ⟨by decide, by decide⟩, fun h => by cases h⟩
theorem md_X1_lose (rm : Room) : MD yX1_lose cX1_lose (5, none, [], false, rm) := ⟨Or.inl ⟨q1184, rfl⟩, plainFor_of_name (by decide), ⟨by decide, by decide⟩, fun h => by cases h⟩
theorem md_X1_again (rm : Room) : MD yX1_again cX1_again (4, none, [], false, rm) := ⟨Or.inl ⟨q1192, rfl⟩, plainFor_of_name (by decide), ⟨by decide, by decide⟩, fun h => by cases h⟩
theorem md_X1_led (rm : Room) : MD yX1_led cX1_led (5, (some .int), [], false, rm) := ⟨Or.inl ⟨q1199, rfl⟩, plainFor_of_name (by decide), ⟨by decide, by decide⟩, fun h => by cases h⟩
theorem md_X1_queue (rm : Room) : MD yX1_queue cX1_queue (2, (some .int), [], false, rm) := ⟨Or.inl ⟨q1206, rfl⟩, plainFor_of_name (by decide), ⟨by decide, by decide⟩, fun h => by cases h⟩
theorem md_X1_ahead (rm : Room) : MD yX1_ahead cX1_ahead (6, (some .int), [], false, rm) := ⟨Or.inl ⟨q1213, rfl⟩, plainFor_of_name (by decide), ⟨by decide, by decide⟩, fun h => by cases h⟩
theorem md_X1_booklet (rm : Room) : MD yX1_booklet cX1_booklet (4, (some .int), [], false, rm) := ⟨Or.inl ⟨q1220, rfl⟩, plainFor_of_name (by decide), ⟨by decide, by decide⟩, fun h => by cases h⟩
theorem md_X1_valid (rm : Room) : MD yX1_valid cX1_valid (4, (some .int), [], false, rm) := ⟨Or.inl ⟨q1227, rfl⟩, plainFor_of_name (by decide), ⟨by decide, by decide⟩, fun h => by cases h⟩
theorem md_X1_missed (rm : Room) : MD yX1_missed cX1_missed (6, (some .int), [], false, rm) := ⟨Or.inl ⟨q1234, rfl⟩, plainFor_of_name (by decide), ⟨by decide, by decide⟩, fun h => by cases h⟩
theorem md_X1_waits (rm : Room) : MD yX1_waits cX1_waits (10, (some .int), [], false, rm) := ⟨Or.inl ⟨q1250, rfl⟩, plainFor_of_name (by decide), ⟨by decide, by decide⟩, fun h => by cases h⟩
theorem md_X1_isGotAhead (rm : Room) : MD yX1_isGotAhead cX1_isGotAhead (5, (some .boolean), [], false, rm) := ⟨Or.inl ⟨q1254, rfl⟩, plainFor_of_name (by decide), ⟨by decide, by decide⟩, fun h => by cases h⟩
