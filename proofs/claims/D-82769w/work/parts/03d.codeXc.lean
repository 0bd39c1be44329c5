/-! method names and decode rows: X1 -/
set_option maxRecDepth 100000
theorem dX1_waits_159 : decode cX1_waits 159 = .ok (.iaload, 1) := by decide +kernel
theorem dX1_waits_160 : decode cX1_waits 160 = .ok (.istore 7, 2) := by decide +kernel
theorem dX1_waits_162 : decode cX1_waits 162 = .ok (.aload_n 0, 1) := by decide +kernel
theorem dX1_waits_163 : decode cX1_waits 163 = .ok (.getfield 42, 3) := by decide +kernel
theorem dX1_waits_166 : decode cX1_waits 166 = .ok (.getfield 232, 3) := by decide +kernel
theorem dX1_waits_169 : decode cX1_waits 169 = .ok (.iload 7, 2) := by decide +kernel
theorem dX1_waits_171 : decode cX1_waits 171 = .ok (.aaload, 1) := by decide +kernel
theorem dX1_waits_172 : decode cX1_waits 172 = .ok (.getfield 323, 3) := by decide +kernel
theorem dX1_waits_175 : decode cX1_waits 175 = .ok (.aload_n 0, 1) := by decide +kernel
theorem dX1_waits_176 : decode cX1_waits 176 = .ok (.getfield 35, 3) := by decide +kernel
theorem dX1_waits_179 : decode cX1_waits 179 = .ok (.iload 7, 2) := by decide +kernel
theorem dX1_waits_181 : decode cX1_waits 181 = .ok (.aaload, 1) := by decide +kernel
theorem dX1_waits_182 : decode cX1_waits 182 = .ok (.getfield 311, 3) := by decide +kernel
theorem dX1_waits_185 : decode cX1_waits 185 = .ok (.isub, 1) := by decide +kernel
theorem dX1_waits_186 : decode cX1_waits 186 = .ok (.istore 8, 2) := by decide +kernel
theorem dX1_waits_188 : decode cX1_waits 188 = .ok (.iload 6, 2) := by decide +kernel
theorem dX1_waits_190 : decode cX1_waits 190 = .ok (.istore 9, 2) := by decide +kernel
theorem dX1_waits_192 : decode cX1_waits 192 = .ok (.iload 9, 2) := by decide +kernel
theorem dX1_waits_194 : decode cX1_waits 194 = .ok (.ifCond .le 39, 3) := by decide +kernel
theorem dX1_waits_197 : decode cX1_waits 197 = .ok (.aload_n 0, 1) := by decide +kernel
theorem dX1_waits_198 : decode cX1_waits 198 = .ok (.getfield 71, 3) := by decide +kernel
theorem dX1_waits_201 : decode cX1_waits 201 = .ok (.iload 9, 2) := by decide +kernel
theorem dX1_waits_203 : decode cX1_waits 203 = .ok (.iconst 1, 1) := by decide +kernel
theorem dX1_waits_204 : decode cX1_waits 204 = .ok (.isub, 1) := by decide +kernel
theorem dX1_waits_205 : decode cX1_waits 205 = .ok (.iaload, 1) := by decide +kernel
theorem dX1_waits_206 : decode cX1_waits 206 = .ok (.iload 8, 2) := by decide +kernel
theorem dX1_waits_208 : decode cX1_waits 208 = .ok (.if_icmp .le 25, 3) := by decide +kernel
theorem dX1_waits_211 : decode cX1_waits 211 = .ok (.aload_n 0, 1) := by decide +kernel
theorem dX1_waits_212 : decode cX1_waits 212 = .ok (.getfield 71, 3) := by decide +kernel
theorem dX1_waits_215 : decode cX1_waits 215 = .ok (.iload 9, 2) := by decide +kernel
theorem dX1_waits_217 : decode cX1_waits 217 = .ok (.aload_n 0, 1) := by decide +kernel
theorem dX1_waits_218 : decode cX1_waits 218 = .ok (.getfield 71, 3) := by decide +kernel
theorem dX1_waits_221 : decode cX1_waits 221 = .ok (.iload 9, 2) := by decide +kernel
theorem dX1_waits_223 : decode cX1_waits 223 = .ok (.iconst 1, 1) := by decide +kernel
theorem dX1_waits_224 : decode cX1_waits 224 = .ok (.isub, 1) := by decide +kernel
theorem dX1_waits_225 : decode cX1_waits 225 = .ok (.iaload, 1) := by decide +kernel
theorem dX1_waits_226 : decode cX1_waits 226 = .ok (.iastore, 1) := by decide +kernel
theorem dX1_waits_227 : decode cX1_waits 227 = .ok (.iinc 9 (-1), 3) := by decide +kernel
theorem dX1_waits_230 : decode cX1_waits 230 = .ok (.goto (-38), 3) := by decide +kernel
theorem dX1_waits_233 : decode cX1_waits 233 = .ok (.aload_n 0, 1) := by decide +kernel
theorem dX1_waits_234 : decode cX1_waits 234 = .ok (.getfield 71, 3) := by decide +kernel
theorem dX1_waits_237 : decode cX1_waits 237 = .ok (.iload 9, 2) := by decide +kernel
theorem dX1_waits_239 : decode cX1_waits 239 = .ok (.iload 8, 2) := by decide +kernel
theorem dX1_waits_241 : decode cX1_waits 241 = .ok (.iastore, 1) := by decide +kernel
theorem dX1_waits_242 : decode cX1_waits 242 = .ok (.iinc 6 1, 3) := by decide +kernel
theorem dX1_waits_245 : decode cX1_waits 245 = .ok (.goto (-102), 3) := by decide +kernel
theorem dX1_waits_248 : decode cX1_waits 248 = .ok (.iload 5, 2) := by decide +kernel
theorem dX1_waits_250 : decode cX1_waits 250 = .ok (.bipush 10, 2) := by decide +kernel
theorem dX1_waits_252 : decode cX1_waits 252 = .ok (.idiv, 1) := by decide +kernel
theorem dX1_waits_253 : decode cX1_waits 253 = .ok (.istore 6, 2) := by decide +kernel
theorem dX1_waits_255 : decode cX1_waits 255 = .ok (.iload 5, 2) := by decide +kernel
theorem dX1_waits_257 : decode cX1_waits 257 = .ok (.ifCond .ne 7, 3) := by decide +kernel
theorem dX1_waits_260 : decode cX1_waits 260 = .ok (.iconst (-1), 1) := by decide +kernel
theorem dX1_waits_261 : decode cX1_waits 261 = .ok (.goto 29, 3) := by decide +kernel
theorem dX1_waits_264 : decode cX1_waits 264 = .ok (.iload_n 2, 1) := by decide +kernel
theorem dX1_waits_265 : decode cX1_waits 265 = .ok (.ifCond .eq 18, 3) := by decide +kernel
theorem dX1_waits_268 : decode cX1_waits 268 = .ok (.aload_n 0, 1) := by decide +kernel
theorem dX1_waits_269 : decode cX1_waits 269 = .ok (.getfield 71, 3) := by decide +kernel
theorem dX1_waits_272 : decode cX1_waits 272 = .ok (.iload 5, 2) := by decide +kernel
theorem dX1_waits_274 : decode cX1_waits 274 = .ok (.iconst 1, 1) := by decide +kernel
theorem dX1_waits_275 : decode cX1_waits 275 = .ok (.isub, 1) := by decide +kernel
theorem dX1_waits_276 : decode cX1_waits 276 = .ok (.iload 6, 2) := by decide +kernel
theorem dX1_waits_278 : decode cX1_waits 278 = .ok (.isub, 1) := by decide +kernel
theorem dX1_waits_279 : decode cX1_waits 279 = .ok (.iaload, 1) := by decide +kernel
theorem dX1_waits_280 : decode cX1_waits 280 = .ok (.goto 10, 3) := by decide +kernel
theorem dX1_waits_283 : decode cX1_waits 283 = .ok (.aload_n 0, 1) := by decide +kernel
theorem dX1_waits_284 : decode cX1_waits 284 = .ok (.getfield 71, 3) := by decide +kernel
theorem dX1_waits_287 : decode cX1_waits 287 = .ok (.iload 6, 2) := by decide +kernel
theorem dX1_waits_289 : decode cX1_waits 289 = .ok (.iaload, 1) := by decide +kernel
theorem dX1_waits_290 : decode cX1_waits 290 = .ok (.ireturn, 1) := by decide +kernel
theorem dX1_isGotAhead_0 : decode cX1_isGotAhead 0 = .ok (.aload_n 0, 1) := by decide +kernel
theorem dX1_isGotAhead_1 : decode cX1_isGotAhead 1 = .ok (.getfield 42, 3) := by decide +kernel
theorem dX1_isGotAhead_4 : decode cX1_isGotAhead 4 = .ok (.getfield 232, 3) := by decide +kernel
theorem dX1_isGotAhead_7 : decode cX1_isGotAhead 7 = .ok (.iload_n 1, 1) := by decide +kernel
theorem dX1_isGotAhead_8 : decode cX1_isGotAhead 8 = .ok (.aaload, 1) := by decide +kernel
theorem dX1_isGotAhead_9 : decode cX1_isGotAhead 9 = .ok (.getfield 323, 3) := by decide +kernel
theorem dX1_isGotAhead_12 : decode cX1_isGotAhead 12 = .ok (.istore_n 3, 1) := by decide +kernel
theorem dX1_isGotAhead_13 : decode cX1_isGotAhead 13 = .ok (.aload_n 0, 1) := by decide +kernel
theorem dX1_isGotAhead_14 : decode cX1_isGotAhead 14 = .ok (.getfield 42, 3) := by decide +kernel
theorem dX1_isGotAhead_17 : decode cX1_isGotAhead 17 = .ok (.getfield 232, 3) := by decide +kernel
theorem dX1_isGotAhead_20 : decode cX1_isGotAhead 20 = .ok (.iload_n 2, 1) := by decide +kernel
theorem dX1_isGotAhead_21 : decode cX1_isGotAhead 21 = .ok (.aaload, 1) := by decide +kernel
theorem dX1_isGotAhead_22 : decode cX1_isGotAhead 22 = .ok (.getfield 323, 3) := by decide +kernel
theorem dX1_isGotAhead_25 : decode cX1_isGotAhead 25 = .ok (.istore 4, 2) := by decide +kernel
theorem dX1_isGotAhead_27 : decode cX1_isGotAhead 27 = .ok (.iload_n 3, 1) := by decide +kernel
theorem dX1_isGotAhead_28 : decode cX1_isGotAhead 28 = .ok (.iload 4, 2) := by decide +kernel
theorem dX1_isGotAhead_30 : decode cX1_isGotAhead 30 = .ok (.if_icmp .lt 14, 3) := by decide +kernel
theorem dX1_isGotAhead_33 : decode cX1_isGotAhead 33 = .ok (.iload_n 3, 1) := by decide +kernel
theorem dX1_isGotAhead_34 : decode cX1_isGotAhead 34 = .ok (.iload 4, 2) := by decide +kernel
theorem dX1_isGotAhead_36 : decode cX1_isGotAhead 36 = .ok (.if_icmp .ne 12, 3) := by decide +kernel
theorem dX1_isGotAhead_39 : decode cX1_isGotAhead 39 = .ok (.iload_n 1, 1) := by decide +kernel
theorem dX1_isGotAhead_40 : decode cX1_isGotAhead 40 = .ok (.iload_n 2, 1) := by decide +kernel
theorem dX1_isGotAhead_41 : decode cX1_isGotAhead 41 = .ok (.if_icmp .ge 7, 3) := by decide +kernel
theorem dX1_isGotAhead_44 : decode cX1_isGotAhead 44 = .ok (.iconst 1, 1) := by decide +kernel
theorem dX1_isGotAhead_45 : decode cX1_isGotAhead 45 = .ok (.goto 4, 3) := by decide +kernel
theorem dX1_isGotAhead_48 : decode cX1_isGotAhead 48 = .ok (.iconst 0, 1) := by decide +kernel
theorem dX1_isGotAhead_49 : decode cX1_isGotAhead 49 = .ok (.ireturn, 1) := by decide +kernel
