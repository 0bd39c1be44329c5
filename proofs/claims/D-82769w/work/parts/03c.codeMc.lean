/-! method names and decode rows: X5 J11 -/
set_option maxRecDepth 100000
theorem dX5_holds_173 : decode cX5_holds 173 = .ok (.istore 6, 2) := by decide +kernel
theorem dX5_holds_175 : decode cX5_holds 175 = .ok (.aload_n 0, 1) := by decide +kernel
theorem dX5_holds_176 : decode cX5_holds 176 = .ok (.getfield 51, 3) := by decide +kernel
theorem dX5_holds_179 : decode cX5_holds 179 = .ok (.iload 4, 2) := by decide +kernel
theorem dX5_holds_181 : decode cX5_holds 181 = .ok (.aload_n 0, 1) := by decide +kernel
theorem dX5_holds_182 : decode cX5_holds 182 = .ok (.getfield 42, 3) := by decide +kernel
theorem dX5_holds_185 : decode cX5_holds 185 = .ok (.iload 5, 2) := by decide +kernel
theorem dX5_holds_187 : decode cX5_holds 187 = .ok (.iaload, 1) := by decide +kernel
theorem dX5_holds_188 : decode cX5_holds 188 = .ok (.ifCond .ne 16, 3) := by decide +kernel
theorem dX5_holds_191 : decode cX5_holds 191 = .ok (.iload 6, 2) := by decide +kernel
theorem dX5_holds_193 : decode cX5_holds 193 = .ok (.ifCond .eq 7, 3) := by decide +kernel
theorem dX5_holds_196 : decode cX5_holds 196 = .ok (.iconst 1, 1) := by decide +kernel
theorem dX5_holds_197 : decode cX5_holds 197 = .ok (.goto 55, 3) := by decide +kernel
theorem dX5_holds_200 : decode cX5_holds 200 = .ok (.iconst 0, 1) := by decide +kernel
theorem dX5_holds_201 : decode cX5_holds 201 = .ok (.goto 51, 3) := by decide +kernel
theorem dX5_holds_204 : decode cX5_holds 204 = .ok (.aload_n 0, 1) := by decide +kernel
theorem dX5_holds_205 : decode cX5_holds 205 = .ok (.getfield 42, 3) := by decide +kernel
theorem dX5_holds_208 : decode cX5_holds 208 = .ok (.iload 5, 2) := by decide +kernel
theorem dX5_holds_210 : decode cX5_holds 210 = .ok (.iaload, 1) := by decide +kernel
theorem dX5_holds_211 : decode cX5_holds 211 = .ok (.iconst 1, 1) := by decide +kernel
theorem dX5_holds_212 : decode cX5_holds 212 = .ok (.if_icmp .ne 23, 3) := by decide +kernel
theorem dX5_holds_215 : decode cX5_holds 215 = .ok (.iload 6, 2) := by decide +kernel
theorem dX5_holds_217 : decode cX5_holds 217 = .ok (.aload_n 0, 1) := by decide +kernel
theorem dX5_holds_218 : decode cX5_holds 218 = .ok (.getfield 45, 3) := by decide +kernel
theorem dX5_holds_221 : decode cX5_holds 221 = .ok (.iload 5, 2) := by decide +kernel
theorem dX5_holds_223 : decode cX5_holds 223 = .ok (.iaload, 1) := by decide +kernel
theorem dX5_holds_224 : decode cX5_holds 224 = .ok (.if_icmp .ge 7, 3) := by decide +kernel
theorem dX5_holds_227 : decode cX5_holds 227 = .ok (.iconst 1, 1) := by decide +kernel
theorem dX5_holds_228 : decode cX5_holds 228 = .ok (.goto 24, 3) := by decide +kernel
theorem dX5_holds_231 : decode cX5_holds 231 = .ok (.iconst 0, 1) := by decide +kernel
theorem dX5_holds_232 : decode cX5_holds 232 = .ok (.goto 20, 3) := by decide +kernel
theorem dX5_holds_235 : decode cX5_holds 235 = .ok (.iload 6, 2) := by decide +kernel
theorem dX5_holds_237 : decode cX5_holds 237 = .ok (.aload_n 0, 1) := by decide +kernel
theorem dX5_holds_238 : decode cX5_holds 238 = .ok (.getfield 45, 3) := by decide +kernel
theorem dX5_holds_241 : decode cX5_holds 241 = .ok (.iload 5, 2) := by decide +kernel
theorem dX5_holds_243 : decode cX5_holds 243 = .ok (.iaload, 1) := by decide +kernel
theorem dX5_holds_244 : decode cX5_holds 244 = .ok (.if_icmp .le 7, 3) := by decide +kernel
theorem dX5_holds_247 : decode cX5_holds 247 = .ok (.iconst 1, 1) := by decide +kernel
theorem dX5_holds_248 : decode cX5_holds 248 = .ok (.goto 4, 3) := by decide +kernel
theorem dX5_holds_251 : decode cX5_holds 251 = .ok (.iconst 0, 1) := by decide +kernel
theorem dX5_holds_252 : decode cX5_holds 252 = .ok (.bastore, 1) := by decide +kernel
theorem dX5_holds_253 : decode cX5_holds 253 = .ok (.iinc 4 1, 3) := by decide +kernel
theorem dX5_holds_256 : decode cX5_holds 256 = .ok (.iinc 5 1, 3) := by decide +kernel
theorem dX5_holds_259 : decode cX5_holds 259 = .ok (.goto (-247), 3) := by decide +kernel
theorem dX5_holds_262 : decode cX5_holds 262 = .ok (.iload 4, 2) := by decide +kernel
theorem dX5_holds_264 : decode cX5_holds 264 = .ok (.ifCond .eq 12, 3) := by decide +kernel
theorem dX5_holds_267 : decode cX5_holds 267 = .ok (.aload_n 0, 1) := by decide +kernel
theorem dX5_holds_268 : decode cX5_holds 268 = .ok (.getfield 51, 3) := by decide +kernel
theorem dX5_holds_271 : decode cX5_holds 271 = .ok (.iconst 0, 1) := by decide +kernel
theorem dX5_holds_272 : decode cX5_holds 272 = .ok (.baload, 1) := by decide +kernel
theorem dX5_holds_273 : decode cX5_holds 273 = .ok (.ifCond .eq 7, 3) := by decide +kernel
theorem dX5_holds_276 : decode cX5_holds 276 = .ok (.iconst 1, 1) := by decide +kernel
theorem dX5_holds_277 : decode cX5_holds 277 = .ok (.goto 4, 3) := by decide +kernel
theorem dX5_holds_280 : decode cX5_holds 280 = .ok (.iconst 0, 1) := by decide +kernel
theorem dX5_holds_281 : decode cX5_holds 281 = .ok (.ireturn, 1) := by decide +kernel
theorem dX5_ask_0 : decode cX5_ask 0 = .ok (.aload_n 0, 1) := by decide +kernel
theorem dX5_ask_1 : decode cX5_ask 1 = .ok (.iconst 0, 1) := by decide +kernel
theorem dX5_ask_2 : decode cX5_ask 2 = .ok (.putfield 178, 3) := by decide +kernel
theorem dX5_ask_5 : decode cX5_ask 5 = .ok (.aload_n 0, 1) := by decide +kernel
theorem dX5_ask_6 : decode cX5_ask 6 = .ok (.aload_n 0, 1) := by decide +kernel
theorem dX5_ask_7 : decode cX5_ask 7 = .ok (.iload_n 1, 1) := by decide +kernel
theorem dX5_ask_8 : decode cX5_ask 8 = .ok (.invokevirtual 385, 3) := by decide +kernel
theorem dX5_ask_11 : decode cX5_ask 11 = .ok (.iconst 1, 1) := by decide +kernel
theorem dX5_ask_12 : decode cX5_ask 12 = .ok (.invokevirtual 321, 3) := by decide +kernel
theorem dX5_ask_15 : decode cX5_ask 15 = .ok (.ifCond .ne 59, 3) := by decide +kernel
theorem dX5_ask_18 : decode cX5_ask 18 = .ok (.aload_n 0, 1) := by decide +kernel
theorem dX5_ask_19 : decode cX5_ask 19 = .ok (.aload_n 0, 1) := by decide +kernel
theorem dX5_ask_20 : decode cX5_ask 20 = .ok (.iload_n 2, 1) := by decide +kernel
theorem dX5_ask_21 : decode cX5_ask 21 = .ok (.iload_n 3, 1) := by decide +kernel
theorem dX5_ask_22 : decode cX5_ask 22 = .ok (.invokevirtual 418, 3) := by decide +kernel
theorem dX5_ask_25 : decode cX5_ask 25 = .ok (.ifCond .ne 15, 3) := by decide +kernel
theorem dX5_ask_28 : decode cX5_ask 28 = .ok (.iload 4, 2) := by decide +kernel
theorem dX5_ask_30 : decode cX5_ask 30 = .ok (.iconst 0, 1) := by decide +kernel
theorem dX5_ask_31 : decode cX5_ask 31 = .ok (.sipush 255, 3) := by decide +kernel
theorem dX5_ask_34 : decode cX5_ask 34 = .ok (.invokestatic 317, 3) := by decide +kernel
theorem dX5_ask_37 : decode cX5_ask 37 = .ok (.ifCond .ne 7, 3) := by decide +kernel
theorem dX5_ask_40 : decode cX5_ask 40 = .ok (.iconst 1, 1) := by decide +kernel
theorem dX5_ask_41 : decode cX5_ask 41 = .ok (.goto 4, 3) := by decide +kernel
theorem dX5_ask_44 : decode cX5_ask 44 = .ok (.iconst 0, 1) := by decide +kernel
theorem dX5_ask_45 : decode cX5_ask 45 = .ok (.iconst 2, 1) := by decide +kernel
theorem dX5_ask_46 : decode cX5_ask 46 = .ok (.invokevirtual 321, 3) := by decide +kernel
theorem dX5_ask_49 : decode cX5_ask 49 = .ok (.ifCond .ne 25, 3) := by decide +kernel
theorem dX5_ask_52 : decode cX5_ask 52 = .ok (.aload_n 0, 1) := by decide +kernel
theorem dX5_ask_53 : decode cX5_ask 53 = .ok (.aload_n 0, 1) := by decide +kernel
theorem dX5_ask_54 : decode cX5_ask 54 = .ok (.getfield 412, 3) := by decide +kernel
theorem dX5_ask_57 : decode cX5_ask 57 = .ok (.bipush 120, 2) := by decide +kernel
theorem dX5_ask_59 : decode cX5_ask 59 = .ok (.if_icmp .ne 7, 3) := by decide +kernel
theorem dX5_ask_62 : decode cX5_ask 62 = .ok (.iconst 1, 1) := by decide +kernel
theorem dX5_ask_63 : decode cX5_ask 63 = .ok (.goto 4, 3) := by decide +kernel
theorem dX5_ask_66 : decode cX5_ask 66 = .ok (.iconst 0, 1) := by decide +kernel
theorem dX5_ask_67 : decode cX5_ask 67 = .ok (.iconst 3, 1) := by decide +kernel
theorem dX5_ask_68 : decode cX5_ask 68 = .ok (.invokevirtual 321, 3) := by decide +kernel
theorem dX5_ask_71 : decode cX5_ask 71 = .ok (.ifCond .eq 5, 3) := by decide +kernel
theorem dX5_ask_74 : decode cX5_ask 74 = .ok (.iconst 0, 1) := by decide +kernel
theorem dX5_ask_75 : decode cX5_ask 75 = .ok (.ireturn, 1) := by decide +kernel
theorem dX5_ask_76 : decode cX5_ask 76 = .ok (.aload_n 0, 1) := by decide +kernel
theorem dX5_ask_77 : decode cX5_ask 77 = .ok (.iload_n 1, 1) := by decide +kernel
theorem dX5_ask_78 : decode cX5_ask 78 = .ok (.iload_n 2, 1) := by decide +kernel
theorem dX5_ask_79 : decode cX5_ask 79 = .ok (.iload_n 3, 1) := by decide +kernel
theorem dX5_ask_80 : decode cX5_ask 80 = .ok (.iload 5, 2) := by decide +kernel
theorem dX5_ask_82 : decode cX5_ask 82 = .ok (.invokevirtual 421, 3) := by decide +kernel
theorem dX5_ask_85 : decode cX5_ask 85 = .ok (.aload_n 0, 1) := by decide +kernel
theorem dX5_ask_86 : decode cX5_ask 86 = .ok (.getfield 412, 3) := by decide +kernel
theorem dX5_ask_89 : decode cX5_ask 89 = .ok (.istore 6, 2) := by decide +kernel
theorem dX5_ask_91 : decode cX5_ask 91 = .ok (.aload_n 0, 1) := by decide +kernel
theorem dX5_ask_92 : decode cX5_ask 92 = .ok (.dup, 1) := by decide +kernel
theorem dX5_ask_93 : decode cX5_ask 93 = .ok (.getfield 412, 3) := by decide +kernel
theorem dX5_ask_96 : decode cX5_ask 96 = .ok (.iconst 1, 1) := by decide +kernel
theorem dX5_ask_97 : decode cX5_ask 97 = .ok (.iadd, 1) := by decide +kernel
theorem dX5_ask_98 : decode cX5_ask 98 = .ok (.putfield 412, 3) := by decide +kernel
theorem dX5_ask_101 : decode cX5_ask 101 = .ok (.aload_n 0, 1) := by decide +kernel
theorem dX5_ask_102 : decode cX5_ask 102 = .ok (.getfield 112, 3) := by decide +kernel
theorem dX5_ask_105 : decode cX5_ask 105 = .ok (.iload 6, 2) := by decide +kernel
theorem dX5_ask_107 : decode cX5_ask 107 = .ok (.iload_n 1, 1) := by decide +kernel
theorem dX5_ask_108 : decode cX5_ask 108 = .ok (.iastore, 1) := by decide +kernel
theorem dX5_ask_109 : decode cX5_ask 109 = .ok (.aload_n 0, 1) := by decide +kernel
theorem dX5_ask_110 : decode cX5_ask 110 = .ok (.getfield 115, 3) := by decide +kernel
theorem dX5_ask_113 : decode cX5_ask 113 = .ok (.iload 6, 2) := by decide +kernel
theorem dX5_ask_115 : decode cX5_ask 115 = .ok (.iload_n 2, 1) := by decide +kernel
theorem dX5_ask_116 : decode cX5_ask 116 = .ok (.iastore, 1) := by decide +kernel
theorem dX5_ask_117 : decode cX5_ask 117 = .ok (.aload_n 0, 1) := by decide +kernel
theorem dX5_ask_118 : decode cX5_ask 118 = .ok (.getfield 118, 3) := by decide +kernel
theorem dX5_ask_121 : decode cX5_ask 121 = .ok (.iload 6, 2) := by decide +kernel
theorem dX5_ask_123 : decode cX5_ask 123 = .ok (.aload_n 0, 1) := by decide +kernel
theorem dX5_ask_124 : decode cX5_ask 124 = .ok (.getfield 314, 3) := by decide +kernel
theorem dX5_ask_127 : decode cX5_ask 127 = .ok (.iastore, 1) := by decide +kernel
theorem dX5_ask_128 : decode cX5_ask 128 = .ok (.aload_n 0, 1) := by decide +kernel
theorem dX5_ask_129 : decode cX5_ask 129 = .ok (.getfield 121, 3) := by decide +kernel
theorem dX5_ask_132 : decode cX5_ask 132 = .ok (.iload 6, 2) := by decide +kernel
theorem dX5_ask_134 : decode cX5_ask 134 = .ok (.iload_n 3, 1) := by decide +kernel
theorem dX5_ask_135 : decode cX5_ask 135 = .ok (.iastore, 1) := by decide +kernel
theorem dX5_ask_136 : decode cX5_ask 136 = .ok (.aload_n 0, 1) := by decide +kernel
theorem dX5_ask_137 : decode cX5_ask 137 = .ok (.getfield 124, 3) := by decide +kernel
theorem dX5_ask_140 : decode cX5_ask 140 = .ok (.iload 6, 2) := by decide +kernel
theorem dX5_ask_142 : decode cX5_ask 142 = .ok (.iload 4, 2) := by decide +kernel
theorem dX5_ask_144 : decode cX5_ask 144 = .ok (.iastore, 1) := by decide +kernel
theorem dX5_ask_145 : decode cX5_ask 145 = .ok (.aload_n 0, 1) := by decide +kernel
theorem dX5_ask_146 : decode cX5_ask 146 = .ok (.getfield 127, 3) := by decide +kernel
theorem dX5_ask_149 : decode cX5_ask 149 = .ok (.iload 6, 2) := by decide +kernel
theorem dX5_ask_151 : decode cX5_ask 151 = .ok (.iload 5, 2) := by decide +kernel
theorem dX5_ask_153 : decode cX5_ask 153 = .ok (.bastore, 1) := by decide +kernel
theorem dX5_ask_154 : decode cX5_ask 154 = .ok (.aload_n 0, 1) := by decide +kernel
theorem dX5_ask_155 : decode cX5_ask 155 = .ok (.getfield 130, 3) := by decide +kernel
theorem dX5_ask_158 : decode cX5_ask 158 = .ok (.iload 6, 2) := by decide +kernel
theorem dX5_ask_160 : decode cX5_ask 160 = .ok (.aload_n 0, 1) := by decide +kernel
theorem dX5_ask_161 : decode cX5_ask 161 = .ok (.getfield 340, 3) := by decide +kernel
theorem dX5_ask_164 : decode cX5_ask 164 = .ok (.iastore, 1) := by decide +kernel
theorem dX5_ask_165 : decode cX5_ask 165 = .ok (.aload_n 0, 1) := by decide +kernel
theorem dX5_ask_166 : decode cX5_ask 166 = .ok (.getfield 133, 3) := by decide +kernel
theorem dX5_ask_169 : decode cX5_ask 169 = .ok (.iload 6, 2) := by decide +kernel
theorem dX5_ask_171 : decode cX5_ask 171 = .ok (.aload_n 0, 1) := by decide +kernel
theorem dX5_ask_172 : decode cX5_ask 172 = .ok (.getfield 343, 3) := by decide +kernel
theorem dX5_ask_175 : decode cX5_ask 175 = .ok (.iastore, 1) := by decide +kernel
theorem dX5_ask_176 : decode cX5_ask 176 = .ok (.aload_n 0, 1) := by decide +kernel
theorem dX5_ask_177 : decode cX5_ask 177 = .ok (.getfield 136, 3) := by decide +kernel
theorem dX5_ask_180 : decode cX5_ask 180 = .ok (.iload 6, 2) := by decide +kernel
theorem dX5_ask_182 : decode cX5_ask 182 = .ok (.aload_n 0, 1) := by decide +kernel
theorem dX5_ask_183 : decode cX5_ask 183 = .ok (.getfield 346, 3) := by decide +kernel
theorem dX5_ask_186 : decode cX5_ask 186 = .ok (.iastore, 1) := by decide +kernel
theorem dX5_ask_187 : decode cX5_ask 187 = .ok (.aload_n 0, 1) := by decide +kernel
theorem dX5_ask_188 : decode cX5_ask 188 = .ok (.getfield 139, 3) := by decide +kernel
theorem dX5_ask_191 : decode cX5_ask 191 = .ok (.iload 6, 2) := by decide +kernel
theorem dX5_ask_193 : decode cX5_ask 193 = .ok (.aload_n 0, 1) := by decide +kernel
theorem dX5_ask_194 : decode cX5_ask 194 = .ok (.getfield 349, 3) := by decide +kernel
theorem dX5_ask_197 : decode cX5_ask 197 = .ok (.iastore, 1) := by decide +kernel
theorem dX5_ask_198 : decode cX5_ask 198 = .ok (.aload_n 0, 1) := by decide +kernel
theorem dX5_ask_199 : decode cX5_ask 199 = .ok (.getfield 142, 3) := by decide +kernel
theorem dX5_ask_202 : decode cX5_ask 202 = .ok (.iload 6, 2) := by decide +kernel
theorem dX5_ask_204 : decode cX5_ask 204 = .ok (.aload_n 0, 1) := by decide +kernel
theorem dX5_ask_205 : decode cX5_ask 205 = .ok (.getfield 355, 3) := by decide +kernel
theorem dX5_ask_208 : decode cX5_ask 208 = .ok (.bastore, 1) := by decide +kernel
theorem dX5_ask_209 : decode cX5_ask 209 = .ok (.aload_n 0, 1) := by decide +kernel
theorem dX5_ask_210 : decode cX5_ask 210 = .ok (.getfield 145, 3) := by decide +kernel
theorem dX5_ask_213 : decode cX5_ask 213 = .ok (.iload 6, 2) := by decide +kernel
theorem dX5_ask_215 : decode cX5_ask 215 = .ok (.aload_n 0, 1) := by decide +kernel
theorem dX5_ask_216 : decode cX5_ask 216 = .ok (.getfield 352, 3) := by decide +kernel
theorem dX5_ask_219 : decode cX5_ask 219 = .ok (.iastore, 1) := by decide +kernel
theorem dX5_ask_220 : decode cX5_ask 220 = .ok (.aload_n 0, 1) := by decide +kernel
theorem dX5_ask_221 : decode cX5_ask 221 = .ok (.iload 6, 2) := by decide +kernel
theorem dX5_ask_223 : decode cX5_ask 223 = .ok (.iconst 0, 1) := by decide +kernel
theorem dX5_ask_224 : decode cX5_ask 224 = .ok (.iconst 0, 1) := by decide +kernel
theorem dX5_ask_225 : decode cX5_ask 225 = .ok (.invokevirtual 425, 3) := by decide +kernel
theorem dX5_ask_228 : decode cX5_ask 228 = .ok (.aload_n 0, 1) := by decide +kernel
theorem dX5_ask_229 : decode cX5_ask 229 = .ok (.iload 6, 2) := by decide +kernel
theorem dX5_ask_231 : decode cX5_ask 231 = .ok (.iconst 1, 1) := by decide +kernel
theorem dX5_ask_232 : decode cX5_ask 232 = .ok (.iconst (-1), 1) := by decide +kernel
theorem dX5_ask_233 : decode cX5_ask 233 = .ok (.invokevirtual 425, 3) := by decide +kernel
theorem dX5_ask_236 : decode cX5_ask 236 = .ok (.aload_n 0, 1) := by decide +kernel
theorem dX5_ask_237 : decode cX5_ask 237 = .ok (.iload 6, 2) := by decide +kernel
theorem dX5_ask_239 : decode cX5_ask 239 = .ok (.iconst 2, 1) := by decide +kernel
theorem dX5_ask_240 : decode cX5_ask 240 = .ok (.iconst (-1), 1) := by decide +kernel
theorem dX5_ask_241 : decode cX5_ask 241 = .ok (.invokevirtual 425, 3) := by decide +kernel
theorem dX5_ask_244 : decode cX5_ask 244 = .ok (.aload_n 0, 1) := by decide +kernel
theorem dX5_ask_245 : decode cX5_ask 245 = .ok (.iload 6, 2) := by decide +kernel
theorem dX5_ask_247 : decode cX5_ask 247 = .ok (.iconst 3, 1) := by decide +kernel
theorem dX5_ask_248 : decode cX5_ask 248 = .ok (.iconst (-1), 1) := by decide +kernel
theorem dX5_ask_249 : decode cX5_ask 249 = .ok (.invokevirtual 425, 3) := by decide +kernel
theorem dX5_ask_252 : decode cX5_ask 252 = .ok (.aload_n 0, 1) := by decide +kernel
theorem dX5_ask_253 : decode cX5_ask 253 = .ok (.iload 6, 2) := by decide +kernel
theorem dX5_ask_255 : decode cX5_ask 255 = .ok (.iconst 4, 1) := by decide +kernel
theorem dX5_ask_256 : decode cX5_ask 256 = .ok (.iconst (-1), 1) := by decide +kernel
theorem dX5_ask_257 : decode cX5_ask 257 = .ok (.invokevirtual 425, 3) := by decide +kernel
theorem dX5_ask_260 : decode cX5_ask 260 = .ok (.aload_n 0, 1) := by decide +kernel
theorem dX5_ask_261 : decode cX5_ask 261 = .ok (.dup, 1) := by decide +kernel
theorem dX5_ask_262 : decode cX5_ask 262 = .ok (.getfield 428, 3) := by decide +kernel
theorem dX5_ask_265 : decode cX5_ask 265 = .ok (.aload_n 0, 1) := by decide +kernel
theorem dX5_ask_266 : decode cX5_ask 266 = .ok (.getfield 343, 3) := by decide +kernel
theorem dX5_ask_269 : decode cX5_ask 269 = .ok (.iadd, 1) := by decide +kernel
theorem dX5_ask_270 : decode cX5_ask 270 = .ok (.putfield 428, 3) := by decide +kernel
theorem dX5_ask_273 : decode cX5_ask 273 = .ok (.iload 6, 2) := by decide +kernel
theorem dX5_ask_275 : decode cX5_ask 275 = .ok (.ireturn, 1) := by decide +kernel
theorem dX5_sets_0 : decode cX5_sets 0 = .ok (.aload_n 0, 1) := by decide +kernel
theorem dX5_sets_1 : decode cX5_sets 1 = .ok (.getfield 148, 3) := by decide +kernel
theorem dX5_sets_4 : decode cX5_sets 4 = .ok (.bipush 7, 2) := by decide +kernel
theorem dX5_sets_6 : decode cX5_sets 6 = .ok (.iload_n 1, 1) := by decide +kernel
theorem dX5_sets_7 : decode cX5_sets 7 = .ok (.imul, 1) := by decide +kernel
theorem dX5_sets_8 : decode cX5_sets 8 = .ok (.iload_n 2, 1) := by decide +kernel
theorem dX5_sets_9 : decode cX5_sets 9 = .ok (.iadd, 1) := by decide +kernel
theorem dX5_sets_10 : decode cX5_sets 10 = .ok (.iload_n 3, 1) := by decide +kernel
theorem dX5_sets_11 : decode cX5_sets 11 = .ok (.iastore, 1) := by decide +kernel
theorem dX5_sets_12 : decode cX5_sets 12 = .ok (.return_, 1) := by decide +kernel
theorem dX5_give_0 : decode cX5_give 0 = .ok (.aload_n 0, 1) := by decide +kernel
theorem dX5_give_1 : decode cX5_give 1 = .ok (.iconst 0, 1) := by decide +kernel
theorem dX5_give_2 : decode cX5_give 2 = .ok (.putfield 178, 3) := by decide +kernel
theorem dX5_give_5 : decode cX5_give 5 = .ok (.aload_n 0, 1) := by decide +kernel
theorem dX5_give_6 : decode cX5_give 6 = .ok (.aload_n 0, 1) := by decide +kernel
theorem dX5_give_7 : decode cX5_give 7 = .ok (.iload_n 1, 1) := by decide +kernel
theorem dX5_give_8 : decode cX5_give 8 = .ok (.invokevirtual 431, 3) := by decide +kernel
theorem dX5_give_11 : decode cX5_give 11 = .ok (.iconst 1, 1) := by decide +kernel
theorem dX5_give_12 : decode cX5_give 12 = .ok (.invokevirtual 321, 3) := by decide +kernel
theorem dX5_give_15 : decode cX5_give 15 = .ok (.ifCond .ne 50, 3) := by decide +kernel
theorem dX5_give_18 : decode cX5_give 18 = .ok (.aload_n 0, 1) := by decide +kernel
theorem dX5_give_19 : decode cX5_give 19 = .ok (.iload_n 2, 1) := by decide +kernel
theorem dX5_give_20 : decode cX5_give 20 = .ok (.iconst 0, 1) := by decide +kernel
theorem dX5_give_21 : decode cX5_give 21 = .ok (.sipush 255, 3) := by decide +kernel
theorem dX5_give_24 : decode cX5_give 24 = .ok (.invokestatic 317, 3) := by decide +kernel
theorem dX5_give_27 : decode cX5_give 27 = .ok (.ifCond .ne 7, 3) := by decide +kernel
theorem dX5_give_30 : decode cX5_give 30 = .ok (.iconst 1, 1) := by decide +kernel
theorem dX5_give_31 : decode cX5_give 31 = .ok (.goto 4, 3) := by decide +kernel
theorem dX5_give_34 : decode cX5_give 34 = .ok (.iconst 0, 1) := by decide +kernel
theorem dX5_give_35 : decode cX5_give 35 = .ok (.iconst 2, 1) := by decide +kernel
theorem dX5_give_36 : decode cX5_give 36 = .ok (.invokevirtual 321, 3) := by decide +kernel
theorem dX5_give_39 : decode cX5_give 39 = .ok (.ifCond .ne 26, 3) := by decide +kernel
theorem dX5_give_42 : decode cX5_give 42 = .ok (.aload_n 0, 1) := by decide +kernel
theorem dX5_give_43 : decode cX5_give 43 = .ok (.aload_n 0, 1) := by decide +kernel
theorem dX5_give_44 : decode cX5_give 44 = .ok (.iload_n 1, 1) := by decide +kernel
theorem dX5_give_45 : decode cX5_give 45 = .ok (.iconst 0, 1) := by decide +kernel
theorem dX5_give_46 : decode cX5_give 46 = .ok (.invokevirtual 434, 3) := by decide +kernel
theorem dX5_give_49 : decode cX5_give 49 = .ok (.iconst 1, 1) := by decide +kernel
theorem dX5_give_50 : decode cX5_give 50 = .ok (.if_icmp .eq 7, 3) := by decide +kernel
theorem dX5_give_53 : decode cX5_give 53 = .ok (.iconst 1, 1) := by decide +kernel
theorem dX5_give_54 : decode cX5_give 54 = .ok (.goto 4, 3) := by decide +kernel
theorem dX5_give_57 : decode cX5_give 57 = .ok (.iconst 0, 1) := by decide +kernel
theorem dX5_give_58 : decode cX5_give 58 = .ok (.iconst 3, 1) := by decide +kernel
theorem dX5_give_59 : decode cX5_give 59 = .ok (.invokevirtual 321, 3) := by decide +kernel
theorem dX5_give_62 : decode cX5_give 62 = .ok (.ifCond .eq 5, 3) := by decide +kernel
theorem dX5_give_65 : decode cX5_give 65 = .ok (.iconst 0, 1) := by decide +kernel
theorem dX5_give_66 : decode cX5_give 66 = .ok (.ireturn, 1) := by decide +kernel
theorem dX5_give_67 : decode cX5_give 67 = .ok (.aload_n 0, 1) := by decide +kernel
theorem dX5_give_68 : decode cX5_give 68 = .ok (.getfield 124, 3) := by decide +kernel
theorem dX5_give_71 : decode cX5_give 71 = .ok (.iload_n 1, 1) := by decide +kernel
theorem dX5_give_72 : decode cX5_give 72 = .ok (.dup2, 1) := by decide +kernel
theorem dX5_give_73 : decode cX5_give 73 = .ok (.iaload, 1) := by decide +kernel
theorem dX5_give_74 : decode cX5_give 74 = .ok (.iload_n 2, 1) := by decide +kernel
theorem dX5_give_75 : decode cX5_give 75 = .ok (.ior, 1) := by decide +kernel
theorem dX5_give_76 : decode cX5_give 76 = .ok (.iastore, 1) := by decide +kernel
theorem dX5_give_77 : decode cX5_give 77 = .ok (.aload_n 0, 1) := by decide +kernel
theorem dX5_give_78 : decode cX5_give 78 = .ok (.iload_n 1, 1) := by decide +kernel
theorem dX5_give_79 : decode cX5_give 79 = .ok (.invokevirtual 437, 3) := by decide +kernel
theorem dX5_give_82 : decode cX5_give 82 = .ok (.ifCond .ne 10, 3) := by decide +kernel
theorem dX5_give_85 : decode cX5_give 85 = .ok (.aload_n 0, 1) := by decide +kernel
theorem dX5_give_86 : decode cX5_give 86 = .ok (.iload_n 1, 1) := by decide +kernel
theorem dX5_give_87 : decode cX5_give 87 = .ok (.iconst 0, 1) := by decide +kernel
theorem dX5_give_88 : decode cX5_give 88 = .ok (.iconst 0, 1) := by decide +kernel
theorem dX5_give_89 : decode cX5_give 89 = .ok (.invokevirtual 425, 3) := by decide +kernel
theorem dX5_give_92 : decode cX5_give 92 = .ok (.aload_n 0, 1) := by decide +kernel
theorem dX5_give_93 : decode cX5_give 93 = .ok (.iload_n 1, 1) := by decide +kernel
theorem dX5_give_94 : decode cX5_give 94 = .ok (.invokevirtual 437, 3) := by decide +kernel
theorem dX5_give_97 : decode cX5_give 97 = .ok (.ireturn, 1) := by decide +kernel
theorem dX5_noAsking_0 : decode cX5_noAsking 0 = .ok (.iload_n 1, 1) := by decide +kernel
theorem dX5_noAsking_1 : decode cX5_noAsking 1 = .ok (.iconst 0, 1) := by decide +kernel
theorem dX5_noAsking_2 : decode cX5_noAsking 2 = .ok (.aload_n 0, 1) := by decide +kernel
theorem dX5_noAsking_3 : decode cX5_noAsking 3 = .ok (.getfield 412, 3) := by decide +kernel
theorem dX5_noAsking_6 : decode cX5_noAsking 6 = .ok (.iconst 1, 1) := by decide +kernel
theorem dX5_noAsking_7 : decode cX5_noAsking 7 = .ok (.isub, 1) := by decide +kernel
theorem dX5_noAsking_8 : decode cX5_noAsking 8 = .ok (.invokestatic 317, 3) := by decide +kernel
theorem dX5_noAsking_11 : decode cX5_noAsking 11 = .ok (.ifCond .ne 7, 3) := by decide +kernel
theorem dX5_noAsking_14 : decode cX5_noAsking 14 = .ok (.iconst 1, 1) := by decide +kernel
theorem dX5_noAsking_15 : decode cX5_noAsking 15 = .ok (.goto 4, 3) := by decide +kernel
theorem dX5_noAsking_18 : decode cX5_noAsking 18 = .ok (.iconst 0, 1) := by decide +kernel
theorem dX5_noAsking_19 : decode cX5_noAsking 19 = .ok (.ireturn, 1) := by decide +kernel
theorem dX5_now_0 : decode cX5_now 0 = .ok (.aload_n 0, 1) := by decide +kernel
theorem dX5_now_1 : decode cX5_now 1 = .ok (.getfield 148, 3) := by decide +kernel
theorem dX5_now_4 : decode cX5_now 4 = .ok (.bipush 7, 2) := by decide +kernel
theorem dX5_now_6 : decode cX5_now 6 = .ok (.iload_n 1, 1) := by decide +kernel
theorem dX5_now_7 : decode cX5_now 7 = .ok (.imul, 1) := by decide +kernel
theorem dX5_now_8 : decode cX5_now 8 = .ok (.iload_n 2, 1) := by decide +kernel
theorem dX5_now_9 : decode cX5_now 9 = .ok (.iadd, 1) := by decide +kernel
theorem dX5_now_10 : decode cX5_now 10 = .ok (.iaload, 1) := by decide +kernel
theorem dX5_now_11 : decode cX5_now 11 = .ok (.ireturn, 1) := by decide +kernel
theorem dX5_lacksOf_0 : decode cX5_lacksOf 0 = .ok (.aload_n 0, 1) := by decide +kernel
theorem dX5_lacksOf_1 : decode cX5_lacksOf 1 = .ok (.getfield 130, 3) := by decide +kernel
theorem dX5_lacksOf_4 : decode cX5_lacksOf 4 = .ok (.iload_n 1, 1) := by decide +kernel
theorem dX5_lacksOf_5 : decode cX5_lacksOf 5 = .ok (.iaload, 1) := by decide +kernel
theorem dX5_lacksOf_6 : decode cX5_lacksOf 6 = .ok (.aload_n 0, 1) := by decide +kernel
theorem dX5_lacksOf_7 : decode cX5_lacksOf 7 = .ok (.getfield 124, 3) := by decide +kernel
theorem dX5_lacksOf_10 : decode cX5_lacksOf 10 = .ok (.iload_n 1, 1) := by decide +kernel
theorem dX5_lacksOf_11 : decode cX5_lacksOf 11 = .ok (.iaload, 1) := by decide +kernel
theorem dX5_lacksOf_12 : decode cX5_lacksOf 12 = .ok (.iconst (-1), 1) := by decide +kernel
theorem dX5_lacksOf_13 : decode cX5_lacksOf 13 = .ok (.ixor, 1) := by decide +kernel
theorem dX5_lacksOf_14 : decode cX5_lacksOf 14 = .ok (.iand, 1) := by decide +kernel
theorem dX5_lacksOf_15 : decode cX5_lacksOf 15 = .ok (.ireturn, 1) := by decide +kernel
theorem dX5_tell_0 : decode cX5_tell 0 = .ok (.aload_n 0, 1) := by decide +kernel
theorem dX5_tell_1 : decode cX5_tell 1 = .ok (.iconst 0, 1) := by decide +kernel
theorem dX5_tell_2 : decode cX5_tell 2 = .ok (.putfield 178, 3) := by decide +kernel
theorem dX5_tell_5 : decode cX5_tell 5 = .ok (.aload_n 0, 1) := by decide +kernel
theorem dX5_tell_6 : decode cX5_tell 6 = .ok (.aload_n 0, 1) := by decide +kernel
theorem dX5_tell_7 : decode cX5_tell 7 = .ok (.iload_n 1, 1) := by decide +kernel
theorem dX5_tell_8 : decode cX5_tell 8 = .ok (.invokevirtual 385, 3) := by decide +kernel
theorem dX5_tell_11 : decode cX5_tell 11 = .ok (.ifCond .ne 11, 3) := by decide +kernel
theorem dX5_tell_14 : decode cX5_tell 14 = .ok (.aload_n 0, 1) := by decide +kernel
theorem dX5_tell_15 : decode cX5_tell 15 = .ok (.iload_n 2, 1) := by decide +kernel
theorem dX5_tell_16 : decode cX5_tell 16 = .ok (.invokevirtual 385, 3) := by decide +kernel
theorem dX5_tell_19 : decode cX5_tell 19 = .ok (.ifCond .eq 7, 3) := by decide +kernel
theorem dX5_tell_22 : decode cX5_tell 22 = .ok (.iconst 1, 1) := by decide +kernel
theorem dX5_tell_23 : decode cX5_tell 23 = .ok (.goto 4, 3) := by decide +kernel
theorem dX5_tell_26 : decode cX5_tell 26 = .ok (.iconst 0, 1) := by decide +kernel
theorem dX5_tell_27 : decode cX5_tell 27 = .ok (.iconst 1, 1) := by decide +kernel
theorem dX5_tell_28 : decode cX5_tell 28 = .ok (.invokevirtual 321, 3) := by decide +kernel
theorem dX5_tell_31 : decode cX5_tell 31 = .ok (.ifCond .ne 21, 3) := by decide +kernel
theorem dX5_tell_34 : decode cX5_tell 34 = .ok (.aload_n 0, 1) := by decide +kernel
theorem dX5_tell_35 : decode cX5_tell 35 = .ok (.iload_n 1, 1) := by decide +kernel
theorem dX5_tell_36 : decode cX5_tell 36 = .ok (.iload_n 2, 1) := by decide +kernel
theorem dX5_tell_37 : decode cX5_tell 37 = .ok (.if_icmp .ne 7, 3) := by decide +kernel
theorem dX5_tell_40 : decode cX5_tell 40 = .ok (.iconst 1, 1) := by decide +kernel
theorem dX5_tell_41 : decode cX5_tell 41 = .ok (.goto 4, 3) := by decide +kernel
theorem dX5_tell_44 : decode cX5_tell 44 = .ok (.iconst 0, 1) := by decide +kernel
theorem dX5_tell_45 : decode cX5_tell 45 = .ok (.iconst 2, 1) := by decide +kernel
theorem dX5_tell_46 : decode cX5_tell 46 = .ok (.invokevirtual 321, 3) := by decide +kernel
theorem dX5_tell_49 : decode cX5_tell 49 = .ok (.ifCond .eq 5, 3) := by decide +kernel
theorem dX5_tell_52 : decode cX5_tell 52 = .ok (.iconst 0, 1) := by decide +kernel
theorem dX5_tell_53 : decode cX5_tell 53 = .ok (.ireturn, 1) := by decide +kernel
theorem dX5_tell_54 : decode cX5_tell 54 = .ok (.aload_n 0, 1) := by decide +kernel
theorem dX5_tell_55 : decode cX5_tell 55 = .ok (.getfield 70, 3) := by decide +kernel
theorem dX5_tell_58 : decode cX5_tell 58 = .ok (.bipush 80, 2) := by decide +kernel
theorem dX5_tell_60 : decode cX5_tell 60 = .ok (.iload_n 1, 1) := by decide +kernel
theorem dX5_tell_61 : decode cX5_tell 61 = .ok (.imul, 1) := by decide +kernel
theorem dX5_tell_62 : decode cX5_tell 62 = .ok (.iload_n 2, 1) := by decide +kernel
theorem dX5_tell_63 : decode cX5_tell 63 = .ok (.iadd, 1) := by decide +kernel
theorem dX5_tell_64 : decode cX5_tell 64 = .ok (.iload_n 3, 1) := by decide +kernel
theorem dX5_tell_65 : decode cX5_tell 65 = .ok (.ifCond .eq 7, 3) := by decide +kernel
theorem dX5_tell_68 : decode cX5_tell 68 = .ok (.iconst 2, 1) := by decide +kernel
theorem dX5_tell_69 : decode cX5_tell 69 = .ok (.goto 4, 3) := by decide +kernel
theorem dX5_tell_72 : decode cX5_tell 72 = .ok (.iconst 1, 1) := by decide +kernel
theorem dX5_tell_73 : decode cX5_tell 73 = .ok (.iastore, 1) := by decide +kernel
theorem dX5_tell_74 : decode cX5_tell 74 = .ok (.aload_n 0, 1) := by decide +kernel
theorem dX5_tell_75 : decode cX5_tell 75 = .ok (.getfield 70, 3) := by decide +kernel
theorem dX5_tell_78 : decode cX5_tell 78 = .ok (.bipush 80, 2) := by decide +kernel
theorem dX5_tell_80 : decode cX5_tell 80 = .ok (.iload_n 2, 1) := by decide +kernel
theorem dX5_tell_81 : decode cX5_tell 81 = .ok (.imul, 1) := by decide +kernel
theorem dX5_tell_82 : decode cX5_tell 82 = .ok (.iload_n 1, 1) := by decide +kernel
theorem dX5_tell_83 : decode cX5_tell 83 = .ok (.iadd, 1) := by decide +kernel
theorem dX5_tell_84 : decode cX5_tell 84 = .ok (.iload_n 3, 1) := by decide +kernel
theorem dX5_tell_85 : decode cX5_tell 85 = .ok (.ifCond .eq 7, 3) := by decide +kernel
theorem dX5_tell_88 : decode cX5_tell 88 = .ok (.iconst 2, 1) := by decide +kernel
theorem dX5_tell_89 : decode cX5_tell 89 = .ok (.goto 4, 3) := by decide +kernel
theorem dX5_tell_92 : decode cX5_tell 92 = .ok (.iconst 1, 1) := by decide +kernel
theorem dX5_tell_93 : decode cX5_tell 93 = .ok (.iastore, 1) := by decide +kernel
theorem dX5_tell_94 : decode cX5_tell 94 = .ok (.iconst 0, 1) := by decide +kernel
theorem dX5_tell_95 : decode cX5_tell 95 = .ok (.istore 4, 2) := by decide +kernel
theorem dX5_tell_97 : decode cX5_tell 97 = .ok (.iconst 0, 1) := by decide +kernel
theorem dX5_tell_98 : decode cX5_tell 98 = .ok (.istore 5, 2) := by decide +kernel
theorem dX5_tell_100 : decode cX5_tell 100 = .ok (.iload 5, 2) := by decide +kernel
theorem dX5_tell_102 : decode cX5_tell 102 = .ok (.aload_n 0, 1) := by decide +kernel
theorem dX5_tell_103 : decode cX5_tell 103 = .ok (.getfield 412, 3) := by decide +kernel
theorem dX5_tell_106 : decode cX5_tell 106 = .ok (.if_icmp .ge 50, 3) := by decide +kernel
theorem dX5_tell_109 : decode cX5_tell 109 = .ok (.aload_n 0, 1) := by decide +kernel
theorem dX5_tell_110 : decode cX5_tell 110 = .ok (.iload 5, 2) := by decide +kernel
theorem dX5_tell_112 : decode cX5_tell 112 = .ok (.iconst 0, 1) := by decide +kernel
theorem dX5_tell_113 : decode cX5_tell 113 = .ok (.invokevirtual 434, 3) := by decide +kernel
theorem dX5_tell_116 : decode cX5_tell 116 = .ok (.iconst 3, 1) := by decide +kernel
theorem dX5_tell_117 : decode cX5_tell 117 = .ok (.if_icmp .eq 6, 3) := by decide +kernel
theorem dX5_tell_120 : decode cX5_tell 120 = .ok (.goto 30, 3) := by decide +kernel
theorem dX5_tell_123 : decode cX5_tell 123 = .ok (.aload_n 0, 1) := by decide +kernel
theorem dX5_tell_124 : decode cX5_tell 124 = .ok (.iload 5, 2) := by decide +kernel
theorem dX5_tell_126 : decode cX5_tell 126 = .ok (.invokevirtual 440, 3) := by decide +kernel
theorem dX5_tell_129 : decode cX5_tell 129 = .ok (.iload 4, 2) := by decide +kernel
theorem dX5_tell_131 : decode cX5_tell 131 = .ok (.aload_n 0, 1) := by decide +kernel
theorem dX5_tell_132 : decode cX5_tell 132 = .ok (.iload 5, 2) := by decide +kernel
theorem dX5_tell_134 : decode cX5_tell 134 = .ok (.iconst 0, 1) := by decide +kernel
theorem dX5_tell_135 : decode cX5_tell 135 = .ok (.invokevirtual 434, 3) := by decide +kernel
theorem dX5_tell_138 : decode cX5_tell 138 = .ok (.iconst 3, 1) := by decide +kernel
theorem dX5_tell_139 : decode cX5_tell 139 = .ok (.if_icmp .eq 7, 3) := by decide +kernel
theorem dX5_tell_142 : decode cX5_tell 142 = .ok (.iconst 1, 1) := by decide +kernel
theorem dX5_tell_143 : decode cX5_tell 143 = .ok (.goto 4, 3) := by decide +kernel
theorem dX5_tell_146 : decode cX5_tell 146 = .ok (.iconst 0, 1) := by decide +kernel
theorem dX5_tell_147 : decode cX5_tell 147 = .ok (.iadd, 1) := by decide +kernel
theorem dX5_tell_148 : decode cX5_tell 148 = .ok (.istore 4, 2) := by decide +kernel
theorem dX5_tell_150 : decode cX5_tell 150 = .ok (.iinc 5 1, 3) := by decide +kernel
theorem dX5_tell_153 : decode cX5_tell 153 = .ok (.goto (-53), 3) := by decide +kernel
theorem dX5_tell_156 : decode cX5_tell 156 = .ok (.iload 4, 2) := by decide +kernel
theorem dX5_tell_158 : decode cX5_tell 158 = .ok (.ireturn, 1) := by decide +kernel
theorem dX5_checks_0 : decode cX5_checks 0 = .ok (.aload_n 0, 1) := by decide +kernel
theorem dX5_checks_1 : decode cX5_checks 1 = .ok (.getfield 112, 3) := by decide +kernel
theorem dX5_checks_4 : decode cX5_checks 4 = .ok (.iload_n 1, 1) := by decide +kernel
theorem dX5_checks_5 : decode cX5_checks 5 = .ok (.iaload, 1) := by decide +kernel
theorem dX5_checks_6 : decode cX5_checks 6 = .ok (.istore_n 2, 1) := by decide +kernel
theorem dX5_checks_7 : decode cX5_checks 7 = .ok (.iconst 0, 1) := by decide +kernel
theorem dX5_checks_8 : decode cX5_checks 8 = .ok (.istore_n 3, 1) := by decide +kernel
theorem dX5_checks_9 : decode cX5_checks 9 = .ok (.iconst 0, 1) := by decide +kernel
theorem dX5_checks_10 : decode cX5_checks 10 = .ok (.istore 4, 2) := by decide +kernel
theorem dX5_checks_12 : decode cX5_checks 12 = .ok (.iconst 0, 1) := by decide +kernel
theorem dX5_checks_13 : decode cX5_checks 13 = .ok (.istore 5, 2) := by decide +kernel
theorem dX5_checks_15 : decode cX5_checks 15 = .ok (.iload 5, 2) := by decide +kernel
theorem dX5_checks_17 : decode cX5_checks 17 = .ok (.aload_n 0, 1) := by decide +kernel
theorem dX5_checks_18 : decode cX5_checks 18 = .ok (.getfield 372, 3) := by decide +kernel
theorem dX5_checks_21 : decode cX5_checks 21 = .ok (.if_icmp .ge 85, 3) := by decide +kernel
theorem dX5_checks_24 : decode cX5_checks 24 = .ok (.iload 5, 2) := by decide +kernel
theorem dX5_checks_26 : decode cX5_checks 26 = .ok (.iload_n 2, 1) := by decide +kernel
theorem dX5_checks_27 : decode cX5_checks 27 = .ok (.if_icmp .eq 73, 3) := by decide +kernel
theorem dX5_checks_30 : decode cX5_checks 30 = .ok (.aload_n 0, 1) := by decide +kernel
theorem dX5_checks_31 : decode cX5_checks 31 = .ok (.iload_n 2, 1) := by decide +kernel
theorem dX5_checks_32 : decode cX5_checks 32 = .ok (.iload 5, 2) := by decide +kernel
theorem dX5_checks_34 : decode cX5_checks 34 = .ok (.invokevirtual 391, 3) := by decide +kernel
theorem dX5_checks_37 : decode cX5_checks 37 = .ok (.aload_n 0, 1) := by decide +kernel
theorem dX5_checks_38 : decode cX5_checks 38 = .ok (.getfield 79, 3) := by decide +kernel
theorem dX5_checks_41 : decode cX5_checks 41 = .ok (.if_icmp .le 6, 3) := by decide +kernel
theorem dX5_checks_44 : decode cX5_checks 44 = .ok (.goto 56, 3) := by decide +kernel
theorem dX5_checks_47 : decode cX5_checks 47 = .ok (.iload_n 3, 1) := by decide +kernel
theorem dX5_checks_48 : decode cX5_checks 48 = .ok (.ifCond .ne 19, 3) := by decide +kernel
theorem dX5_checks_51 : decode cX5_checks 51 = .ok (.aload_n 0, 1) := by decide +kernel
theorem dX5_checks_52 : decode cX5_checks 52 = .ok (.getfield 70, 3) := by decide +kernel
theorem dX5_checks_55 : decode cX5_checks 55 = .ok (.bipush 80, 2) := by decide +kernel
theorem dX5_checks_57 : decode cX5_checks 57 = .ok (.iload_n 2, 1) := by decide +kernel
theorem dX5_checks_58 : decode cX5_checks 58 = .ok (.imul, 1) := by decide +kernel
theorem dX5_checks_59 : decode cX5_checks 59 = .ok (.iload 5, 2) := by decide +kernel
theorem dX5_checks_61 : decode cX5_checks 61 = .ok (.iadd, 1) := by decide +kernel
theorem dX5_checks_62 : decode cX5_checks 62 = .ok (.iaload, 1) := by decide +kernel
theorem dX5_checks_63 : decode cX5_checks 63 = .ok (.iconst 2, 1) := by decide +kernel
theorem dX5_checks_64 : decode cX5_checks 64 = .ok (.if_icmp .ne 7, 3) := by decide +kernel
theorem dX5_checks_67 : decode cX5_checks 67 = .ok (.iconst 1, 1) := by decide +kernel
theorem dX5_checks_68 : decode cX5_checks 68 = .ok (.goto 4, 3) := by decide +kernel
theorem dX5_checks_71 : decode cX5_checks 71 = .ok (.iconst 0, 1) := by decide +kernel
theorem dX5_checks_72 : decode cX5_checks 72 = .ok (.istore_n 3, 1) := by decide +kernel
theorem dX5_checks_73 : decode cX5_checks 73 = .ok (.iload 4, 2) := by decide +kernel
theorem dX5_checks_75 : decode cX5_checks 75 = .ok (.ifCond .ne 18, 3) := by decide +kernel
theorem dX5_checks_78 : decode cX5_checks 78 = .ok (.aload_n 0, 1) := by decide +kernel
theorem dX5_checks_79 : decode cX5_checks 79 = .ok (.getfield 70, 3) := by decide +kernel
theorem dX5_checks_82 : decode cX5_checks 82 = .ok (.bipush 80, 2) := by decide +kernel
theorem dX5_checks_84 : decode cX5_checks 84 = .ok (.iload_n 2, 1) := by decide +kernel
theorem dX5_checks_85 : decode cX5_checks 85 = .ok (.imul, 1) := by decide +kernel
theorem dX5_checks_86 : decode cX5_checks 86 = .ok (.iload 5, 2) := by decide +kernel
theorem dX5_checks_88 : decode cX5_checks 88 = .ok (.iadd, 1) := by decide +kernel
theorem dX5_checks_89 : decode cX5_checks 89 = .ok (.iaload, 1) := by decide +kernel
theorem dX5_checks_90 : decode cX5_checks 90 = .ok (.ifCond .ne 7, 3) := by decide +kernel
theorem dX5_checks_93 : decode cX5_checks 93 = .ok (.iconst 1, 1) := by decide +kernel
theorem dX5_checks_94 : decode cX5_checks 94 = .ok (.goto 4, 3) := by decide +kernel
theorem dX5_checks_97 : decode cX5_checks 97 = .ok (.iconst 0, 1) := by decide +kernel
theorem dX5_checks_98 : decode cX5_checks 98 = .ok (.istore 4, 2) := by decide +kernel
theorem dX5_checks_100 : decode cX5_checks 100 = .ok (.iinc 5 1, 3) := by decide +kernel
theorem dX5_checks_103 : decode cX5_checks 103 = .ok (.goto (-88), 3) := by decide +kernel
theorem dX5_checks_106 : decode cX5_checks 106 = .ok (.aload_n 0, 1) := by decide +kernel
theorem dX5_checks_107 : decode cX5_checks 107 = .ok (.iload_n 1, 1) := by decide +kernel
theorem dX5_checks_108 : decode cX5_checks 108 = .ok (.iconst 0, 1) := by decide +kernel
theorem dX5_checks_109 : decode cX5_checks 109 = .ok (.iload_n 3, 1) := by decide +kernel
theorem dX5_checks_110 : decode cX5_checks 110 = .ok (.ifCond .eq 8, 3) := by decide +kernel
theorem dX5_checks_113 : decode cX5_checks 113 = .ok (.bipush 9, 2) := by decide +kernel
theorem dX5_checks_115 : decode cX5_checks 115 = .ok (.goto 39, 3) := by decide +kernel
theorem dX5_checks_118 : decode cX5_checks 118 = .ok (.iload 4, 2) := by decide +kernel
theorem dX5_checks_120 : decode cX5_checks 120 = .ok (.ifCond .eq 7, 3) := by decide +kernel
theorem dX5_checks_123 : decode cX5_checks 123 = .ok (.iconst 3, 1) := by decide +kernel
theorem dX5_checks_124 : decode cX5_checks 124 = .ok (.goto 30, 3) := by decide +kernel
theorem dX5_checks_127 : decode cX5_checks 127 = .ok (.aload_n 0, 1) := by decide +kernel
theorem dX5_checks_128 : decode cX5_checks 128 = .ok (.getfield 142, 3) := by decide +kernel
theorem dX5_checks_131 : decode cX5_checks 131 = .ok (.iload_n 1, 1) := by decide +kernel
theorem dX5_checks_132 : decode cX5_checks 132 = .ok (.baload, 1) := by decide +kernel
theorem dX5_checks_133 : decode cX5_checks 133 = .ok (.ifCond .ne 16, 3) := by decide +kernel
theorem dX5_checks_136 : decode cX5_checks 136 = .ok (.aload_n 0, 1) := by decide +kernel
theorem dX5_checks_137 : decode cX5_checks 137 = .ok (.getfield 139, 3) := by decide +kernel
theorem dX5_checks_140 : decode cX5_checks 140 = .ok (.iload_n 1, 1) := by decide +kernel
theorem dX5_checks_141 : decode cX5_checks 141 = .ok (.iaload, 1) := by decide +kernel
theorem dX5_checks_142 : decode cX5_checks 142 = .ok (.aload_n 0, 1) := by decide +kernel
theorem dX5_checks_143 : decode cX5_checks 143 = .ok (.getfield 82, 3) := by decide +kernel
theorem dX5_checks_146 : decode cX5_checks 146 = .ok (.if_icmp .le 7, 3) := by decide +kernel
theorem dX5_checks_149 : decode cX5_checks 149 = .ok (.iconst 4, 1) := by decide +kernel
theorem dX5_checks_150 : decode cX5_checks 150 = .ok (.goto 4, 3) := by decide +kernel
theorem dX5_checks_153 : decode cX5_checks 153 = .ok (.iconst 5, 1) := by decide +kernel
theorem dX5_checks_154 : decode cX5_checks 154 = .ok (.invokevirtual 425, 3) := by decide +kernel
theorem dX5_checks_157 : decode cX5_checks 157 = .ok (.return_, 1) := by decide +kernel
theorem dX5_days_0 : decode cX5_days 0 = .ok (.aload_n 0, 1) := by decide +kernel
theorem dX5_days_1 : decode cX5_days 1 = .ok (.iconst 0, 1) := by decide +kernel
theorem dX5_days_2 : decode cX5_days 2 = .ok (.putfield 178, 3) := by decide +kernel
theorem dX5_days_5 : decode cX5_days 5 = .ok (.aload_n 0, 1) := by decide +kernel
theorem dX5_days_6 : decode cX5_days 6 = .ok (.iload_n 1, 1) := by decide +kernel
theorem dX5_days_7 : decode cX5_days 7 = .ok (.iconst 0, 1) := by decide +kernel
theorem dX5_days_8 : decode cX5_days 8 = .ok (.bipush 60, 2) := by decide +kernel
theorem dX5_days_10 : decode cX5_days 10 = .ok (.invokestatic 317, 3) := by decide +kernel
theorem dX5_days_13 : decode cX5_days 13 = .ok (.ifCond .ne 7, 3) := by decide +kernel
theorem dX5_days_16 : decode cX5_days 16 = .ok (.iconst 1, 1) := by decide +kernel
theorem dX5_days_17 : decode cX5_days 17 = .ok (.goto 4, 3) := by decide +kernel
theorem dX5_days_20 : decode cX5_days 20 = .ok (.iconst 0, 1) := by decide +kernel
theorem dX5_days_21 : decode cX5_days 21 = .ok (.iconst 1, 1) := by decide +kernel
theorem dX5_days_22 : decode cX5_days 22 = .ok (.invokevirtual 321, 3) := by decide +kernel
theorem dX5_days_25 : decode cX5_days 25 = .ok (.ifCond .eq 5, 3) := by decide +kernel
theorem dX5_days_28 : decode cX5_days 28 = .ok (.iconst 0, 1) := by decide +kernel
theorem dX5_days_29 : decode cX5_days 29 = .ok (.ireturn, 1) := by decide +kernel
theorem dX5_days_30 : decode cX5_days 30 = .ok (.iconst 0, 1) := by decide +kernel
theorem dX5_days_31 : decode cX5_days 31 = .ok (.istore_n 2, 1) := by decide +kernel
theorem dX5_days_32 : decode cX5_days 32 = .ok (.iload_n 2, 1) := by decide +kernel
theorem dX5_days_33 : decode cX5_days 33 = .ok (.iload_n 1, 1) := by decide +kernel
theorem dX5_days_34 : decode cX5_days 34 = .ok (.if_icmp .ge 27, 3) := by decide +kernel
theorem dX5_days_37 : decode cX5_days 37 = .ok (.aload_n 0, 1) := by decide +kernel
theorem dX5_days_38 : decode cX5_days 38 = .ok (.getfield 314, 3) := by decide +kernel
theorem dX5_days_41 : decode cX5_days 41 = .ok (.sipush 1000, 3) := by decide +kernel
theorem dX5_days_44 : decode cX5_days 44 = .ok (.if_icmp .ge 17, 3) := by decide +kernel
theorem dX5_days_47 : decode cX5_days 47 = .ok (.aload_n 0, 1) := by decide +kernel
theorem dX5_days_48 : decode cX5_days 48 = .ok (.aload_n 0, 1) := by decide +kernel
theorem dX5_days_49 : decode cX5_days 49 = .ok (.getfield 403, 3) := by decide +kernel
theorem dX5_days_52 : decode cX5_days 52 = .ok (.invokevirtual 490, 3) := by decide +kernel
theorem dX5_days_55 : decode cX5_days 55 = .ok (.iinc 2 1, 3) := by decide +kernel
theorem dX5_days_58 : decode cX5_days 58 = .ok (.goto (-26), 3) := by decide +kernel
theorem dX5_days_61 : decode cX5_days 61 = .ok (.aload_n 0, 1) := by decide +kernel
theorem dX5_days_62 : decode cX5_days 62 = .ok (.getfield 314, 3) := by decide +kernel
theorem dX5_days_65 : decode cX5_days 65 = .ok (.ireturn, 1) := by decide +kernel
theorem dX5_day_0 : decode cX5_day 0 = .ok (.aload_n 0, 1) := by decide +kernel
theorem dX5_day_1 : decode cX5_day 1 = .ok (.dup, 1) := by decide +kernel
theorem dX5_day_2 : decode cX5_day 2 = .ok (.getfield 314, 3) := by decide +kernel
theorem dX5_day_5 : decode cX5_day 5 = .ok (.iconst 1, 1) := by decide +kernel
theorem dX5_day_6 : decode cX5_day 6 = .ok (.iadd, 1) := by decide +kernel
theorem dX5_day_7 : decode cX5_day 7 = .ok (.putfield 314, 3) := by decide +kernel
theorem dX5_day_10 : decode cX5_day 10 = .ok (.iconst 0, 1) := by decide +kernel
theorem dX5_day_11 : decode cX5_day 11 = .ok (.istore_n 2, 1) := by decide +kernel
theorem dX5_day_12 : decode cX5_day 12 = .ok (.iload_n 2, 1) := by decide +kernel
theorem dX5_day_13 : decode cX5_day 13 = .ok (.aload_n 0, 1) := by decide +kernel
theorem dX5_day_14 : decode cX5_day 14 = .ok (.getfield 412, 3) := by decide +kernel
theorem dX5_day_17 : decode cX5_day 17 = .ok (.if_icmp .ge 38, 3) := by decide +kernel
theorem dX5_day_20 : decode cX5_day 20 = .ok (.aload_n 0, 1) := by decide +kernel
theorem dX5_day_21 : decode cX5_day 21 = .ok (.iload_n 2, 1) := by decide +kernel
theorem dX5_day_22 : decode cX5_day 22 = .ok (.iconst 0, 1) := by decide +kernel
theorem dX5_day_23 : decode cX5_day 23 = .ok (.invokevirtual 434, 3) := by decide +kernel
theorem dX5_day_26 : decode cX5_day 26 = .ok (.bipush 6, 2) := by decide +kernel
theorem dX5_day_28 : decode cX5_day 28 = .ok (.if_icmp .ne 21, 3) := by decide +kernel
theorem dX5_day_31 : decode cX5_day 31 = .ok (.aload_n 0, 1) := by decide +kernel
theorem dX5_day_32 : decode cX5_day 32 = .ok (.iload_n 2, 1) := by decide +kernel
theorem dX5_day_33 : decode cX5_day 33 = .ok (.iconst 4, 1) := by decide +kernel
theorem dX5_day_34 : decode cX5_day 34 = .ok (.invokevirtual 434, 3) := by decide +kernel
theorem dX5_day_37 : decode cX5_day 37 = .ok (.aload_n 0, 1) := by decide +kernel
theorem dX5_day_38 : decode cX5_day 38 = .ok (.getfield 314, 3) := by decide +kernel
theorem dX5_day_41 : decode cX5_day 41 = .ok (.if_icmp .gt 8, 3) := by decide +kernel
theorem dX5_day_44 : decode cX5_day 44 = .ok (.aload_n 0, 1) := by decide +kernel
theorem dX5_day_45 : decode cX5_day 45 = .ok (.iload_n 2, 1) := by decide +kernel
theorem dX5_day_46 : decode cX5_day 46 = .ok (.invokevirtual 459, 3) := by decide +kernel
theorem dX5_day_49 : decode cX5_day 49 = .ok (.iinc 2 1, 3) := by decide +kernel
theorem dX5_day_52 : decode cX5_day 52 = .ok (.goto (-40), 3) := by decide +kernel
theorem dX5_day_55 : decode cX5_day 55 = .ok (.iconst 0, 1) := by decide +kernel
theorem dX5_day_56 : decode cX5_day 56 = .ok (.istore_n 2, 1) := by decide +kernel
theorem dX5_day_57 : decode cX5_day 57 = .ok (.iconst 0, 1) := by decide +kernel
theorem dX5_day_58 : decode cX5_day 58 = .ok (.istore_n 3, 1) := by decide +kernel
theorem dX5_day_59 : decode cX5_day 59 = .ok (.iload_n 3, 1) := by decide +kernel
theorem dX5_day_60 : decode cX5_day 60 = .ok (.aload_n 0, 1) := by decide +kernel
theorem dX5_day_61 : decode cX5_day 61 = .ok (.getfield 412, 3) := by decide +kernel
theorem dX5_day_64 : decode cX5_day 64 = .ok (.if_icmp .ge 45, 3) := by decide +kernel
theorem dX5_day_67 : decode cX5_day 67 = .ok (.iload_n 2, 1) := by decide +kernel
theorem dX5_day_68 : decode cX5_day 68 = .ok (.aload_n 0, 1) := by decide +kernel
theorem dX5_day_69 : decode cX5_day 69 = .ok (.iload_n 3, 1) := by decide +kernel
theorem dX5_day_70 : decode cX5_day 70 = .ok (.iconst 0, 1) := by decide +kernel
theorem dX5_day_71 : decode cX5_day 71 = .ok (.invokevirtual 434, 3) := by decide +kernel
theorem dX5_day_74 : decode cX5_day 74 = .ok (.iconst 5, 1) := by decide +kernel
theorem dX5_day_75 : decode cX5_day 75 = .ok (.if_icmp .gt 25, 3) := by decide +kernel
theorem dX5_day_78 : decode cX5_day 78 = .ok (.aload_n 0, 1) := by decide +kernel
theorem dX5_day_79 : decode cX5_day 79 = .ok (.getfield 314, 3) := by decide +kernel
theorem dX5_day_82 : decode cX5_day 82 = .ok (.aload_n 0, 1) := by decide +kernel
theorem dX5_day_83 : decode cX5_day 83 = .ok (.getfield 118, 3) := by decide +kernel
theorem dX5_day_86 : decode cX5_day 86 = .ok (.iload_n 3, 1) := by decide +kernel
theorem dX5_day_87 : decode cX5_day 87 = .ok (.iaload, 1) := by decide +kernel
theorem dX5_day_88 : decode cX5_day 88 = .ok (.isub, 1) := by decide +kernel
theorem dX5_day_89 : decode cX5_day 89 = .ok (.aload_n 0, 1) := by decide +kernel
theorem dX5_day_90 : decode cX5_day 90 = .ok (.getfield 76, 3) := by decide +kernel
theorem dX5_day_93 : decode cX5_day 93 = .ok (.if_icmp .le 7, 3) := by decide +kernel
theorem dX5_day_96 : decode cX5_day 96 = .ok (.iconst 1, 1) := by decide +kernel
theorem dX5_day_97 : decode cX5_day 97 = .ok (.goto 4, 3) := by decide +kernel
theorem dX5_day_100 : decode cX5_day 100 = .ok (.iconst 0, 1) := by decide +kernel
theorem dX5_day_101 : decode cX5_day 101 = .ok (.iadd, 1) := by decide +kernel
theorem dX5_day_102 : decode cX5_day 102 = .ok (.istore_n 2, 1) := by decide +kernel
theorem dX5_day_103 : decode cX5_day 103 = .ok (.iinc 3 1, 3) := by decide +kernel
theorem dX5_day_106 : decode cX5_day 106 = .ok (.goto (-47), 3) := by decide +kernel
theorem dX5_day_109 : decode cX5_day 109 = .ok (.aload_n 0, 1) := by decide +kernel
theorem dX5_day_110 : decode cX5_day 110 = .ok (.iload_n 2, 1) := by decide +kernel
theorem dX5_day_111 : decode cX5_day 111 = .ok (.iconst 3, 1) := by decide +kernel
theorem dX5_day_112 : decode cX5_day 112 = .ok (.idiv, 1) := by decide +kernel
theorem dX5_day_113 : decode cX5_day 113 = .ok (.putfield 465, 3) := by decide +kernel
theorem dX5_day_116 : decode cX5_day 116 = .ok (.aload_n 0, 1) := by decide +kernel
theorem dX5_day_117 : decode cX5_day 117 = .ok (.dup, 1) := by decide +kernel
theorem dX5_day_118 : decode cX5_day 118 = .ok (.getfield 484, 3) := by decide +kernel
theorem dX5_day_121 : decode cX5_day 121 = .ok (.aload_n 0, 1) := by decide +kernel
theorem dX5_day_122 : decode cX5_day 122 = .ok (.getfield 465, 3) := by decide +kernel
theorem dX5_day_125 : decode cX5_day 125 = .ok (.iadd, 1) := by decide +kernel
theorem dX5_day_126 : decode cX5_day 126 = .ok (.putfield 484, 3) := by decide +kernel
theorem dX5_day_129 : decode cX5_day 129 = .ok (.aload_n 0, 1) := by decide +kernel
theorem dX5_day_130 : decode cX5_day 130 = .ok (.iconst 0, 1) := by decide +kernel
theorem dX5_day_131 : decode cX5_day 131 = .ok (.putfield 481, 3) := by decide +kernel
theorem dX5_day_134 : decode cX5_day 134 = .ok (.iconst 0, 1) := by decide +kernel
theorem dX5_day_135 : decode cX5_day 135 = .ok (.istore_n 3, 1) := by decide +kernel
theorem dX5_day_136 : decode cX5_day 136 = .ok (.iload_n 3, 1) := by decide +kernel
theorem dX5_day_137 : decode cX5_day 137 = .ok (.iconst 4, 1) := by decide +kernel
theorem dX5_day_138 : decode cX5_day 138 = .ok (.if_icmp .ge 15, 3) := by decide +kernel
theorem dX5_day_141 : decode cX5_day 141 = .ok (.aload_n 0, 1) := by decide +kernel
theorem dX5_day_142 : decode cX5_day 142 = .ok (.iload_n 3, 1) := by decide +kernel
theorem dX5_day_143 : decode cX5_day 143 = .ok (.iload_n 1, 1) := by decide +kernel
theorem dX5_day_144 : decode cX5_day 144 = .ok (.invokevirtual 487, 3) := by decide +kernel
theorem dX5_day_147 : decode cX5_day 147 = .ok (.iinc 3 1, 3) := by decide +kernel
theorem dX5_day_150 : decode cX5_day 150 = .ok (.goto (-14), 3) := by decide +kernel
theorem dX5_day_153 : decode cX5_day 153 = .ok (.return_, 1) := by decide +kernel
theorem dX5_gets_0 : decode cX5_gets 0 = .ok (.aload_n 0, 1) := by decide +kernel
theorem dX5_gets_1 : decode cX5_gets 1 = .ok (.iload_n 1, 1) := by decide +kernel
theorem dX5_gets_2 : decode cX5_gets 2 = .ok (.iconst 0, 1) := by decide +kernel
theorem dX5_gets_3 : decode cX5_gets 3 = .ok (.bipush 7, 2) := by decide +kernel
theorem dX5_gets_5 : decode cX5_gets 5 = .ok (.invokevirtual 425, 3) := by decide +kernel
theorem dX5_gets_8 : decode cX5_gets 8 = .ok (.aload_n 0, 1) := by decide +kernel
theorem dX5_gets_9 : decode cX5_gets 9 = .ok (.iload_n 1, 1) := by decide +kernel
theorem dX5_gets_10 : decode cX5_gets 10 = .ok (.iconst 3, 1) := by decide +kernel
theorem dX5_gets_11 : decode cX5_gets 11 = .ok (.aload_n 0, 1) := by decide +kernel
theorem dX5_gets_12 : decode cX5_gets 12 = .ok (.getfield 314, 3) := by decide +kernel
theorem dX5_gets_15 : decode cX5_gets 15 = .ok (.invokevirtual 425, 3) := by decide +kernel
theorem dX5_gets_18 : decode cX5_gets 18 = .ok (.aload_n 0, 1) := by decide +kernel
theorem dX5_gets_19 : decode cX5_gets 19 = .ok (.getfield 145, 3) := by decide +kernel
theorem dX5_gets_22 : decode cX5_gets 22 = .ok (.iload_n 1, 1) := by decide +kernel
theorem dX5_gets_23 : decode cX5_gets 23 = .ok (.iaload, 1) := by decide +kernel
theorem dX5_gets_24 : decode cX5_gets 24 = .ok (.ifCond .lt 23, 3) := by decide +kernel
theorem dX5_gets_27 : decode cX5_gets 27 = .ok (.aload_n 0, 1) := by decide +kernel
theorem dX5_gets_28 : decode cX5_gets 28 = .ok (.getfield 314, 3) := by decide +kernel
theorem dX5_gets_31 : decode cX5_gets 31 = .ok (.aload_n 0, 1) := by decide +kernel
theorem dX5_gets_32 : decode cX5_gets 32 = .ok (.getfield 121, 3) := by decide +kernel
theorem dX5_gets_35 : decode cX5_gets 35 = .ok (.iload_n 1, 1) := by decide +kernel
theorem dX5_gets_36 : decode cX5_gets 36 = .ok (.iaload, 1) := by decide +kernel
theorem dX5_gets_37 : decode cX5_gets 37 = .ok (.isub, 1) := by decide +kernel
theorem dX5_gets_38 : decode cX5_gets 38 = .ok (.aload_n 0, 1) := by decide +kernel
theorem dX5_gets_39 : decode cX5_gets 39 = .ok (.getfield 145, 3) := by decide +kernel
theorem dX5_gets_42 : decode cX5_gets 42 = .ok (.iload_n 1, 1) := by decide +kernel
theorem dX5_gets_43 : decode cX5_gets 43 = .ok (.iaload, 1) := by decide +kernel
theorem dX5_gets_44 : decode cX5_gets 44 = .ok (.if_icmp .gt 4, 3) := by decide +kernel
theorem dX5_gets_47 : decode cX5_gets 47 = .ok (.return_, 1) := by decide +kernel
theorem dX5_gets_48 : decode cX5_gets 48 = .ok (.aload_n 0, 1) := by decide +kernel
theorem dX5_gets_49 : decode cX5_gets 49 = .ok (.iload_n 1, 1) := by decide +kernel
theorem dX5_gets_50 : decode cX5_gets 50 = .ok (.bipush 6, 2) := by decide +kernel
theorem dX5_gets_52 : decode cX5_gets 52 = .ok (.iconst 1, 1) := by decide +kernel
theorem dX5_gets_53 : decode cX5_gets 53 = .ok (.invokevirtual 425, 3) := by decide +kernel
theorem dX5_gets_56 : decode cX5_gets 56 = .ok (.aload_n 0, 1) := by decide +kernel
theorem dX5_gets_57 : decode cX5_gets 57 = .ok (.dup, 1) := by decide +kernel
theorem dX5_gets_58 : decode cX5_gets 58 = .ok (.getfield 456, 3) := by decide +kernel
theorem dX5_gets_61 : decode cX5_gets 61 = .ok (.aload_n 0, 1) := by decide +kernel
theorem dX5_gets_62 : decode cX5_gets 62 = .ok (.getfield 133, 3) := by decide +kernel
theorem dX5_gets_65 : decode cX5_gets 65 = .ok (.iload_n 1, 1) := by decide +kernel
theorem dX5_gets_66 : decode cX5_gets 66 = .ok (.iaload, 1) := by decide +kernel
theorem dX5_gets_67 : decode cX5_gets 67 = .ok (.iadd, 1) := by decide +kernel
theorem dX5_gets_68 : decode cX5_gets 68 = .ok (.putfield 456, 3) := by decide +kernel
theorem dX5_gets_71 : decode cX5_gets 71 = .ok (.return_, 1) := by decide +kernel
theorem dX5_works_0 : decode cX5_works 0 = .ok (.aload_n 0, 1) := by decide +kernel
theorem dX5_works_1 : decode cX5_works 1 = .ok (.iload_n 1, 1) := by decide +kernel
theorem dX5_works_2 : decode cX5_works 2 = .ok (.aload_n 0, 1) := by decide +kernel
theorem dX5_works_3 : decode cX5_works 3 = .ok (.getfield 314, 3) := by decide +kernel
theorem dX5_works_6 : decode cX5_works 6 = .ok (.invokevirtual 400, 3) := by decide +kernel
theorem dX5_works_9 : decode cX5_works 9 = .ok (.istore_n 3, 1) := by decide +kernel
theorem dX5_works_10 : decode cX5_works 10 = .ok (.iload_n 1, 1) := by decide +kernel
theorem dX5_works_11 : decode cX5_works 11 = .ok (.ifCond .ne 14, 3) := by decide +kernel
theorem dX5_works_14 : decode cX5_works 14 = .ok (.iconst 0, 1) := by decide +kernel
theorem dX5_works_15 : decode cX5_works 15 = .ok (.iload_n 3, 1) := by decide +kernel
theorem dX5_works_16 : decode cX5_works 16 = .ok (.aload_n 0, 1) := by decide +kernel
theorem dX5_works_17 : decode cX5_works 17 = .ok (.getfield 465, 3) := by decide +kernel
theorem dX5_works_20 : decode cX5_works 20 = .ok (.isub, 1) := by decide +kernel
theorem dX5_works_21 : decode cX5_works 21 = .ok (.invokestatic 366, 3) := by decide +kernel
theorem dX5_works_24 : decode cX5_works 24 = .ok (.istore_n 3, 1) := by decide +kernel
theorem dX5_works_25 : decode cX5_works 25 = .ok (.aload_n 0, 1) := by decide +kernel
theorem dX5_works_26 : decode cX5_works 26 = .ok (.iload_n 1, 1) := by decide +kernel
theorem dX5_works_27 : decode cX5_works 27 = .ok (.iload_n 2, 1) := by decide +kernel
theorem dX5_works_28 : decode cX5_works 28 = .ok (.invokevirtual 468, 3) := by decide +kernel
theorem dX5_works_31 : decode cX5_works 31 = .ok (.iconst 0, 1) := by decide +kernel
theorem dX5_works_32 : decode cX5_works 32 = .ok (.istore 4, 2) := by decide +kernel
theorem dX5_works_34 : decode cX5_works 34 = .ok (.iload 4, 2) := by decide +kernel
theorem dX5_works_36 : decode cX5_works 36 = .ok (.aload_n 0, 1) := by decide +kernel
theorem dX5_works_37 : decode cX5_works 37 = .ok (.getfield 447, 3) := by decide +kernel
theorem dX5_works_40 : decode cX5_works 40 = .ok (.if_icmp .ge 61, 3) := by decide +kernel
theorem dX5_works_43 : decode cX5_works 43 = .ok (.aload_n 0, 1) := by decide +kernel
theorem dX5_works_44 : decode cX5_works 44 = .ok (.iload_n 1, 1) := by decide +kernel
theorem dX5_works_45 : decode cX5_works 45 = .ok (.aload_n 0, 1) := by decide +kernel
theorem dX5_works_46 : decode cX5_works 46 = .ok (.getfield 163, 3) := by decide +kernel
theorem dX5_works_49 : decode cX5_works 49 = .ok (.iload 4, 2) := by decide +kernel
theorem dX5_works_51 : decode cX5_works 51 = .ok (.iaload, 1) := by decide +kernel
theorem dX5_works_52 : decode cX5_works 52 = .ok (.invokevirtual 472, 3) := by decide +kernel
theorem dX5_works_55 : decode cX5_works 55 = .ok (.istore 5, 2) := by decide +kernel
theorem dX5_works_57 : decode cX5_works 57 = .ok (.iload 5, 2) := by decide +kernel
theorem dX5_works_59 : decode cX5_works 59 = .ok (.iload_n 3, 1) := by decide +kernel
theorem dX5_works_60 : decode cX5_works 60 = .ok (.if_icmp .gt 41, 3) := by decide +kernel
theorem dX5_works_63 : decode cX5_works 63 = .ok (.iload_n 1, 1) := by decide +kernel
theorem dX5_works_64 : decode cX5_works 64 = .ok (.iconst 3, 1) := by decide +kernel
theorem dX5_works_65 : decode cX5_works 65 = .ok (.if_icmp .ne 13, 3) := by decide +kernel
theorem dX5_works_68 : decode cX5_works 68 = .ok (.aload_n 0, 1) := by decide +kernel
theorem dX5_works_69 : decode cX5_works 69 = .ok (.invokevirtual 475, 3) := by decide +kernel
theorem dX5_works_72 : decode cX5_works 72 = .ok (.ifCond .ne 6, 3) := by decide +kernel
theorem dX5_works_75 : decode cX5_works 75 = .ok (.goto 26, 3) := by decide +kernel
theorem dX5_works_78 : decode cX5_works 78 = .ok (.iload_n 3, 1) := by decide +kernel
theorem dX5_works_79 : decode cX5_works 79 = .ok (.iload 5, 2) := by decide +kernel
theorem dX5_works_81 : decode cX5_works 81 = .ok (.isub, 1) := by decide +kernel
theorem dX5_works_82 : decode cX5_works 82 = .ok (.istore_n 3, 1) := by decide +kernel
theorem dX5_works_83 : decode cX5_works 83 = .ok (.aload_n 0, 1) := by decide +kernel
theorem dX5_works_84 : decode cX5_works 84 = .ok (.iload_n 1, 1) := by decide +kernel
theorem dX5_works_85 : decode cX5_works 85 = .ok (.aload_n 0, 1) := by decide +kernel
theorem dX5_works_86 : decode cX5_works 86 = .ok (.getfield 163, 3) := by decide +kernel
theorem dX5_works_89 : decode cX5_works 89 = .ok (.iload 4, 2) := by decide +kernel
theorem dX5_works_91 : decode cX5_works 91 = .ok (.iaload, 1) := by decide +kernel
theorem dX5_works_92 : decode cX5_works 92 = .ok (.invokevirtual 478, 3) := by decide +kernel
theorem dX5_works_95 : decode cX5_works 95 = .ok (.iinc 4 1, 3) := by decide +kernel
theorem dX5_works_98 : decode cX5_works 98 = .ok (.goto (-64), 3) := by decide +kernel
theorem dX5_works_101 : decode cX5_works 101 = .ok (.aload_n 0, 1) := by decide +kernel
theorem dX5_works_102 : decode cX5_works 102 = .ok (.dup, 1) := by decide +kernel
theorem dX5_works_103 : decode cX5_works 103 = .ok (.getfield 481, 3) := by decide +kernel
theorem dX5_works_106 : decode cX5_works 106 = .ok (.iload_n 3, 1) := by decide +kernel
theorem dX5_works_107 : decode cX5_works 107 = .ok (.iadd, 1) := by decide +kernel
theorem dX5_works_108 : decode cX5_works 108 = .ok (.putfield 481, 3) := by decide +kernel
theorem dX5_works_111 : decode cX5_works 111 = .ok (.return_, 1) := by decide +kernel
theorem dX5_lines_0 : decode cX5_lines 0 = .ok (.aload_n 0, 1) := by decide +kernel
theorem dX5_lines_1 : decode cX5_lines 1 = .ok (.iconst 0, 1) := by decide +kernel
theorem dX5_lines_2 : decode cX5_lines 2 = .ok (.putfield 447, 3) := by decide +kernel
theorem dX5_lines_5 : decode cX5_lines 5 = .ok (.iconst 0, 1) := by decide +kernel
theorem dX5_lines_6 : decode cX5_lines 6 = .ok (.istore_n 3, 1) := by decide +kernel
theorem dX5_lines_7 : decode cX5_lines 7 = .ok (.iload_n 3, 1) := by decide +kernel
theorem dX5_lines_8 : decode cX5_lines 8 = .ok (.aload_n 0, 1) := by decide +kernel
theorem dX5_lines_9 : decode cX5_lines 9 = .ok (.getfield 412, 3) := by decide +kernel
theorem dX5_lines_12 : decode cX5_lines 12 = .ok (.if_icmp .ge 94, 3) := by decide +kernel
theorem dX5_lines_15 : decode cX5_lines 15 = .ok (.aload_n 0, 1) := by decide +kernel
theorem dX5_lines_16 : decode cX5_lines 16 = .ok (.iload_n 3, 1) := by decide +kernel
theorem dX5_lines_17 : decode cX5_lines 17 = .ok (.iconst 0, 1) := by decide +kernel
theorem dX5_lines_18 : decode cX5_lines 18 = .ok (.invokevirtual 434, 3) := by decide +kernel
theorem dX5_lines_21 : decode cX5_lines 21 = .ok (.iload_n 1, 1) := by decide +kernel
theorem dX5_lines_22 : decode cX5_lines 22 = .ok (.invokestatic 450, 3) := by decide +kernel
theorem dX5_lines_25 : decode cX5_lines 25 = .ok (.if_icmp .eq 6, 3) := by decide +kernel
theorem dX5_lines_28 : decode cX5_lines 28 = .ok (.goto 72, 3) := by decide +kernel
theorem dX5_lines_31 : decode cX5_lines 31 = .ok (.aload_n 0, 1) := by decide +kernel
theorem dX5_lines_32 : decode cX5_lines 32 = .ok (.getfield 447, 3) := by decide +kernel
theorem dX5_lines_35 : decode cX5_lines 35 = .ok (.istore 4, 2) := by decide +kernel
theorem dX5_lines_37 : decode cX5_lines 37 = .ok (.iload 4, 2) := by decide +kernel
theorem dX5_lines_39 : decode cX5_lines 39 = .ok (.ifCond .le 43, 3) := by decide +kernel
theorem dX5_lines_42 : decode cX5_lines 42 = .ok (.aload_n 0, 1) := by decide +kernel
theorem dX5_lines_43 : decode cX5_lines 43 = .ok (.iload_n 3, 1) := by decide +kernel
theorem dX5_lines_44 : decode cX5_lines 44 = .ok (.aload_n 0, 1) := by decide +kernel
theorem dX5_lines_45 : decode cX5_lines 45 = .ok (.getfield 163, 3) := by decide +kernel
theorem dX5_lines_48 : decode cX5_lines 48 = .ok (.iload 4, 2) := by decide +kernel
theorem dX5_lines_50 : decode cX5_lines 50 = .ok (.iconst 1, 1) := by decide +kernel
theorem dX5_lines_51 : decode cX5_lines 51 = .ok (.isub, 1) := by decide +kernel
theorem dX5_lines_52 : decode cX5_lines 52 = .ok (.iaload, 1) := by decide +kernel
theorem dX5_lines_53 : decode cX5_lines 53 = .ok (.iload_n 2, 1) := by decide +kernel
theorem dX5_lines_54 : decode cX5_lines 54 = .ok (.invokevirtual 453, 3) := by decide +kernel
theorem dX5_lines_57 : decode cX5_lines 57 = .ok (.ifCond .eq 25, 3) := by decide +kernel
theorem dX5_lines_60 : decode cX5_lines 60 = .ok (.aload_n 0, 1) := by decide +kernel
theorem dX5_lines_61 : decode cX5_lines 61 = .ok (.getfield 163, 3) := by decide +kernel
theorem dX5_lines_64 : decode cX5_lines 64 = .ok (.iload 4, 2) := by decide +kernel
theorem dX5_lines_66 : decode cX5_lines 66 = .ok (.aload_n 0, 1) := by decide +kernel
theorem dX5_lines_67 : decode cX5_lines 67 = .ok (.getfield 163, 3) := by decide +kernel
theorem dX5_lines_70 : decode cX5_lines 70 = .ok (.iload 4, 2) := by decide +kernel
theorem dX5_lines_72 : decode cX5_lines 72 = .ok (.iconst 1, 1) := by decide +kernel
theorem dX5_lines_73 : decode cX5_lines 73 = .ok (.isub, 1) := by decide +kernel
theorem dX5_lines_74 : decode cX5_lines 74 = .ok (.iaload, 1) := by decide +kernel
theorem dX5_lines_75 : decode cX5_lines 75 = .ok (.iastore, 1) := by decide +kernel
theorem dX5_lines_76 : decode cX5_lines 76 = .ok (.iinc 4 (-1), 3) := by decide +kernel
theorem dX5_lines_79 : decode cX5_lines 79 = .ok (.goto (-42), 3) := by decide +kernel
theorem dX5_lines_82 : decode cX5_lines 82 = .ok (.aload_n 0, 1) := by decide +kernel
theorem dX5_lines_83 : decode cX5_lines 83 = .ok (.getfield 163, 3) := by decide +kernel
theorem dX5_lines_86 : decode cX5_lines 86 = .ok (.iload 4, 2) := by decide +kernel
theorem dX5_lines_88 : decode cX5_lines 88 = .ok (.iload_n 3, 1) := by decide +kernel
theorem dX5_lines_89 : decode cX5_lines 89 = .ok (.iastore, 1) := by decide +kernel
theorem dX5_lines_90 : decode cX5_lines 90 = .ok (.aload_n 0, 1) := by decide +kernel
theorem dX5_lines_91 : decode cX5_lines 91 = .ok (.dup, 1) := by decide +kernel
theorem dX5_lines_92 : decode cX5_lines 92 = .ok (.getfield 447, 3) := by decide +kernel
theorem dX5_lines_95 : decode cX5_lines 95 = .ok (.iconst 1, 1) := by decide +kernel
theorem dX5_lines_96 : decode cX5_lines 96 = .ok (.iadd, 1) := by decide +kernel
theorem dX5_lines_97 : decode cX5_lines 97 = .ok (.putfield 447, 3) := by decide +kernel
theorem dX5_lines_100 : decode cX5_lines 100 = .ok (.iinc 3 1, 3) := by decide +kernel
theorem dX5_lines_103 : decode cX5_lines 103 = .ok (.goto (-96), 3) := by decide +kernel
theorem dX5_lines_106 : decode cX5_lines 106 = .ok (.return_, 1) := by decide +kernel
theorem dX5_stateAt_0 : decode cX5_stateAt 0 = .ok (.iload_n 0, 1) := by decide +kernel
theorem dX5_stateAt_1 : decode cX5_stateAt 1 = .ok (.ifCond .ne 7, 3) := by decide +kernel
theorem dX5_stateAt_4 : decode cX5_stateAt 4 = .ok (.iconst 0, 1) := by decide +kernel
theorem dX5_stateAt_5 : decode cX5_stateAt 5 = .ok (.goto 22, 3) := by decide +kernel
theorem dX5_stateAt_8 : decode cX5_stateAt 8 = .ok (.iload_n 0, 1) := by decide +kernel
theorem dX5_stateAt_9 : decode cX5_stateAt 9 = .ok (.iconst 1, 1) := by decide +kernel
theorem dX5_stateAt_10 : decode cX5_stateAt 10 = .ok (.if_icmp .ne 7, 3) := by decide +kernel
theorem dX5_stateAt_13 : decode cX5_stateAt 13 = .ok (.iconst 2, 1) := by decide +kernel
theorem dX5_stateAt_14 : decode cX5_stateAt 14 = .ok (.goto 13, 3) := by decide +kernel
theorem dX5_stateAt_17 : decode cX5_stateAt 17 = .ok (.iload_n 0, 1) := by decide +kernel
theorem dX5_stateAt_18 : decode cX5_stateAt 18 = .ok (.iconst 2, 1) := by decide +kernel
theorem dX5_stateAt_19 : decode cX5_stateAt 19 = .ok (.if_icmp .ne 7, 3) := by decide +kernel
theorem dX5_stateAt_22 : decode cX5_stateAt 22 = .ok (.iconst 4, 1) := by decide +kernel
theorem dX5_stateAt_23 : decode cX5_stateAt 23 = .ok (.goto 4, 3) := by decide +kernel
theorem dX5_stateAt_26 : decode cX5_stateAt 26 = .ok (.iconst 5, 1) := by decide +kernel
theorem dX5_stateAt_27 : decode cX5_stateAt 27 = .ok (.ireturn, 1) := by decide +kernel
theorem dX5_isAhead_0 : decode cX5_isAhead 0 = .ok (.aload_n 0, 1) := by decide +kernel
theorem dX5_isAhead_1 : decode cX5_isAhead 1 = .ok (.getfield 127, 3) := by decide +kernel
theorem dX5_isAhead_4 : decode cX5_isAhead 4 = .ok (.iload_n 1, 1) := by decide +kernel
theorem dX5_isAhead_5 : decode cX5_isAhead 5 = .ok (.baload, 1) := by decide +kernel
theorem dX5_isAhead_6 : decode cX5_isAhead 6 = .ok (.aload_n 0, 1) := by decide +kernel
theorem dX5_isAhead_7 : decode cX5_isAhead 7 = .ok (.getfield 127, 3) := by decide +kernel
theorem dX5_isAhead_10 : decode cX5_isAhead 10 = .ok (.iload_n 2, 1) := by decide +kernel
theorem dX5_isAhead_11 : decode cX5_isAhead 11 = .ok (.baload, 1) := by decide +kernel
theorem dX5_isAhead_12 : decode cX5_isAhead 12 = .ok (.if_icmp .eq 10, 3) := by decide +kernel
theorem dX5_isAhead_15 : decode cX5_isAhead 15 = .ok (.aload_n 0, 1) := by decide +kernel
theorem dX5_isAhead_16 : decode cX5_isAhead 16 = .ok (.getfield 127, 3) := by decide +kernel
theorem dX5_isAhead_19 : decode cX5_isAhead 19 = .ok (.iload_n 1, 1) := by decide +kernel
theorem dX5_isAhead_20 : decode cX5_isAhead 20 = .ok (.baload, 1) := by decide +kernel
theorem dX5_isAhead_21 : decode cX5_isAhead 21 = .ok (.ireturn, 1) := by decide +kernel
theorem dX5_isAhead_22 : decode cX5_isAhead 22 = .ok (.iload_n 3, 1) := by decide +kernel
theorem dX5_isAhead_23 : decode cX5_isAhead 23 = .ok (.ifCond .ne 39, 3) := by decide +kernel
theorem dX5_isAhead_26 : decode cX5_isAhead 26 = .ok (.aload_n 0, 1) := by decide +kernel
theorem dX5_isAhead_27 : decode cX5_isAhead 27 = .ok (.getfield 118, 3) := by decide +kernel
theorem dX5_isAhead_30 : decode cX5_isAhead 30 = .ok (.iload_n 1, 1) := by decide +kernel
theorem dX5_isAhead_31 : decode cX5_isAhead 31 = .ok (.iaload, 1) := by decide +kernel
theorem dX5_isAhead_32 : decode cX5_isAhead 32 = .ok (.aload_n 0, 1) := by decide +kernel
theorem dX5_isAhead_33 : decode cX5_isAhead 33 = .ok (.getfield 118, 3) := by decide +kernel
theorem dX5_isAhead_36 : decode cX5_isAhead 36 = .ok (.iload_n 2, 1) := by decide +kernel
theorem dX5_isAhead_37 : decode cX5_isAhead 37 = .ok (.iaload, 1) := by decide +kernel
theorem dX5_isAhead_38 : decode cX5_isAhead 38 = .ok (.if_icmp .eq 24, 3) := by decide +kernel
theorem dX5_isAhead_41 : decode cX5_isAhead 41 = .ok (.aload_n 0, 1) := by decide +kernel
theorem dX5_isAhead_42 : decode cX5_isAhead 42 = .ok (.getfield 118, 3) := by decide +kernel
theorem dX5_isAhead_45 : decode cX5_isAhead 45 = .ok (.iload_n 1, 1) := by decide +kernel
theorem dX5_isAhead_46 : decode cX5_isAhead 46 = .ok (.iaload, 1) := by decide +kernel
theorem dX5_isAhead_47 : decode cX5_isAhead 47 = .ok (.aload_n 0, 1) := by decide +kernel
theorem dX5_isAhead_48 : decode cX5_isAhead 48 = .ok (.getfield 118, 3) := by decide +kernel
theorem dX5_isAhead_51 : decode cX5_isAhead 51 = .ok (.iload_n 2, 1) := by decide +kernel
theorem dX5_isAhead_52 : decode cX5_isAhead 52 = .ok (.iaload, 1) := by decide +kernel
theorem dX5_isAhead_53 : decode cX5_isAhead 53 = .ok (.if_icmp .ge 7, 3) := by decide +kernel
theorem dX5_isAhead_56 : decode cX5_isAhead 56 = .ok (.iconst 1, 1) := by decide +kernel
theorem dX5_isAhead_57 : decode cX5_isAhead 57 = .ok (.goto 4, 3) := by decide +kernel
theorem dX5_isAhead_60 : decode cX5_isAhead 60 = .ok (.iconst 0, 1) := by decide +kernel
theorem dX5_isAhead_61 : decode cX5_isAhead 61 = .ok (.ireturn, 1) := by decide +kernel
theorem dX5_isAhead_62 : decode cX5_isAhead 62 = .ok (.iload_n 3, 1) := by decide +kernel
theorem dX5_isAhead_63 : decode cX5_isAhead 63 = .ok (.iconst 2, 1) := by decide +kernel
theorem dX5_isAhead_64 : decode cX5_isAhead 64 = .ok (.if_icmp .ne 22, 3) := by decide +kernel
theorem dX5_isAhead_67 : decode cX5_isAhead 67 = .ok (.aload_n 0, 1) := by decide +kernel
theorem dX5_isAhead_68 : decode cX5_isAhead 68 = .ok (.iload_n 1, 1) := by decide +kernel
theorem dX5_isAhead_69 : decode cX5_isAhead 69 = .ok (.invokevirtual 444, 3) := by decide +kernel
theorem dX5_isAhead_72 : decode cX5_isAhead 72 = .ok (.aload_n 0, 1) := by decide +kernel
theorem dX5_isAhead_73 : decode cX5_isAhead 73 = .ok (.iload_n 2, 1) := by decide +kernel
theorem dX5_isAhead_74 : decode cX5_isAhead 74 = .ok (.invokevirtual 444, 3) := by decide +kernel
theorem dX5_isAhead_77 : decode cX5_isAhead 77 = .ok (.if_icmp .eq 9, 3) := by decide +kernel
theorem dX5_isAhead_80 : decode cX5_isAhead 80 = .ok (.aload_n 0, 1) := by decide +kernel
theorem dX5_isAhead_81 : decode cX5_isAhead 81 = .ok (.iload_n 1, 1) := by decide +kernel
theorem dX5_isAhead_82 : decode cX5_isAhead 82 = .ok (.invokevirtual 444, 3) := by decide +kernel
theorem dX5_isAhead_85 : decode cX5_isAhead 85 = .ok (.ireturn, 1) := by decide +kernel
theorem dX5_isAhead_86 : decode cX5_isAhead 86 = .ok (.iload_n 3, 1) := by decide +kernel
theorem dX5_isAhead_87 : decode cX5_isAhead 87 = .ok (.ifCond .le 39, 3) := by decide +kernel
theorem dX5_isAhead_90 : decode cX5_isAhead 90 = .ok (.aload_n 0, 1) := by decide +kernel
theorem dX5_isAhead_91 : decode cX5_isAhead 91 = .ok (.getfield 121, 3) := by decide +kernel
theorem dX5_isAhead_94 : decode cX5_isAhead 94 = .ok (.iload_n 1, 1) := by decide +kernel
theorem dX5_isAhead_95 : decode cX5_isAhead 95 = .ok (.iaload, 1) := by decide +kernel
theorem dX5_isAhead_96 : decode cX5_isAhead 96 = .ok (.aload_n 0, 1) := by decide +kernel
theorem dX5_isAhead_97 : decode cX5_isAhead 97 = .ok (.getfield 121, 3) := by decide +kernel
theorem dX5_isAhead_100 : decode cX5_isAhead 100 = .ok (.iload_n 2, 1) := by decide +kernel
theorem dX5_isAhead_101 : decode cX5_isAhead 101 = .ok (.iaload, 1) := by decide +kernel
theorem dX5_isAhead_102 : decode cX5_isAhead 102 = .ok (.if_icmp .eq 24, 3) := by decide +kernel
theorem dX5_isAhead_105 : decode cX5_isAhead 105 = .ok (.aload_n 0, 1) := by decide +kernel
theorem dX5_isAhead_106 : decode cX5_isAhead 106 = .ok (.getfield 121, 3) := by decide +kernel
theorem dX5_isAhead_109 : decode cX5_isAhead 109 = .ok (.iload_n 1, 1) := by decide +kernel
theorem dX5_isAhead_110 : decode cX5_isAhead 110 = .ok (.iaload, 1) := by decide +kernel
theorem dX5_isAhead_111 : decode cX5_isAhead 111 = .ok (.aload_n 0, 1) := by decide +kernel
theorem dX5_isAhead_112 : decode cX5_isAhead 112 = .ok (.getfield 121, 3) := by decide +kernel
theorem dX5_isAhead_115 : decode cX5_isAhead 115 = .ok (.iload_n 2, 1) := by decide +kernel
theorem dX5_isAhead_116 : decode cX5_isAhead 116 = .ok (.iaload, 1) := by decide +kernel
theorem dX5_isAhead_117 : decode cX5_isAhead 117 = .ok (.if_icmp .ge 7, 3) := by decide +kernel
theorem dX5_isAhead_120 : decode cX5_isAhead 120 = .ok (.iconst 1, 1) := by decide +kernel
theorem dX5_isAhead_121 : decode cX5_isAhead 121 = .ok (.goto 4, 3) := by decide +kernel
theorem dX5_isAhead_124 : decode cX5_isAhead 124 = .ok (.iconst 0, 1) := by decide +kernel
theorem dX5_isAhead_125 : decode cX5_isAhead 125 = .ok (.ireturn, 1) := by decide +kernel
theorem dX5_isAhead_126 : decode cX5_isAhead 126 = .ok (.iload_n 1, 1) := by decide +kernel
theorem dX5_isAhead_127 : decode cX5_isAhead 127 = .ok (.iload_n 2, 1) := by decide +kernel
theorem dX5_isAhead_128 : decode cX5_isAhead 128 = .ok (.if_icmp .ge 7, 3) := by decide +kernel
theorem dX5_isAhead_131 : decode cX5_isAhead 131 = .ok (.iconst 1, 1) := by decide +kernel
theorem dX5_isAhead_132 : decode cX5_isAhead 132 = .ok (.goto 4, 3) := by decide +kernel
theorem dX5_isAhead_135 : decode cX5_isAhead 135 = .ok (.iconst 0, 1) := by decide +kernel
theorem dX5_isAhead_136 : decode cX5_isAhead 136 = .ok (.ireturn, 1) := by decide +kernel
theorem dX5_hasTicket_0 : decode cX5_hasTicket 0 = .ok (.aload_n 0, 1) := by decide +kernel
theorem dX5_hasTicket_1 : decode cX5_hasTicket 1 = .ok (.getfield 124, 3) := by decide +kernel
theorem dX5_hasTicket_4 : decode cX5_hasTicket 4 = .ok (.iload_n 1, 1) := by decide +kernel
theorem dX5_hasTicket_5 : decode cX5_hasTicket 5 = .ok (.iaload, 1) := by decide +kernel
theorem dX5_hasTicket_6 : decode cX5_hasTicket 6 = .ok (.bipush 6, 2) := by decide +kernel
theorem dX5_hasTicket_8 : decode cX5_hasTicket 8 = .ok (.ishr, 1) := by decide +kernel
theorem dX5_hasTicket_9 : decode cX5_hasTicket 9 = .ok (.iconst 1, 1) := by decide +kernel
theorem dX5_hasTicket_10 : decode cX5_hasTicket 10 = .ok (.iand, 1) := by decide +kernel
theorem dX5_hasTicket_11 : decode cX5_hasTicket 11 = .ok (.iconst 1, 1) := by decide +kernel
theorem dX5_hasTicket_12 : decode cX5_hasTicket 12 = .ok (.if_icmp .ne 7, 3) := by decide +kernel
theorem dX5_hasTicket_15 : decode cX5_hasTicket 15 = .ok (.iconst 1, 1) := by decide +kernel
theorem dX5_hasTicket_16 : decode cX5_hasTicket 16 = .ok (.goto 4, 3) := by decide +kernel
theorem dX5_hasTicket_19 : decode cX5_hasTicket 19 = .ok (.iconst 0, 1) := by decide +kernel
theorem dX5_hasTicket_20 : decode cX5_hasTicket 20 = .ok (.ireturn, 1) := by decide +kernel
theorem dX5_takes_0 : decode cX5_takes 0 = .ok (.iload_n 1, 1) := by decide +kernel
theorem dX5_takes_1 : decode cX5_takes 1 = .ok (.ifCond .ne 20, 3) := by decide +kernel
theorem dX5_takes_4 : decode cX5_takes 4 = .ok (.aload_n 0, 1) := by decide +kernel
theorem dX5_takes_5 : decode cX5_takes 5 = .ok (.iload_n 2, 1) := by decide +kernel
theorem dX5_takes_6 : decode cX5_takes 6 = .ok (.iconst 2, 1) := by decide +kernel
theorem dX5_takes_7 : decode cX5_takes 7 = .ok (.invokevirtual 434, 3) := by decide +kernel
theorem dX5_takes_10 : decode cX5_takes 10 = .ok (.ifCond .ge 7, 3) := by decide +kernel
theorem dX5_takes_13 : decode cX5_takes 13 = .ok (.iconst 2, 1) := by decide +kernel
theorem dX5_takes_14 : decode cX5_takes 14 = .ok (.goto 34, 3) := by decide +kernel
theorem dX5_takes_17 : decode cX5_takes 17 = .ok (.iconst 1, 1) := by decide +kernel
theorem dX5_takes_18 : decode cX5_takes 18 = .ok (.goto 30, 3) := by decide +kernel
theorem dX5_takes_21 : decode cX5_takes 21 = .ok (.iload_n 1, 1) := by decide +kernel
theorem dX5_takes_22 : decode cX5_takes 22 = .ok (.iconst 1, 1) := by decide +kernel
theorem dX5_takes_23 : decode cX5_takes 23 = .ok (.if_icmp .ne 14, 3) := by decide +kernel
theorem dX5_takes_26 : decode cX5_takes 26 = .ok (.iconst 3, 1) := by decide +kernel
theorem dX5_takes_27 : decode cX5_takes 27 = .ok (.aload_n 0, 1) := by decide +kernel
theorem dX5_takes_28 : decode cX5_takes 28 = .ok (.getfield 139, 3) := by decide +kernel
theorem dX5_takes_31 : decode cX5_takes 31 = .ok (.iload_n 2, 1) := by decide +kernel
theorem dX5_takes_32 : decode cX5_takes 32 = .ok (.iaload, 1) := by decide +kernel
theorem dX5_takes_33 : decode cX5_takes 33 = .ok (.iadd, 1) := by decide +kernel
theorem dX5_takes_34 : decode cX5_takes 34 = .ok (.goto 14, 3) := by decide +kernel
theorem dX5_takes_37 : decode cX5_takes 37 = .ok (.iload_n 1, 1) := by decide +kernel
theorem dX5_takes_38 : decode cX5_takes 38 = .ok (.iconst 2, 1) := by decide +kernel
theorem dX5_takes_39 : decode cX5_takes 39 = .ok (.if_icmp .ne 8, 3) := by decide +kernel
theorem dX5_takes_42 : decode cX5_takes 42 = .ok (.bipush 6, 2) := by decide +kernel
theorem dX5_takes_44 : decode cX5_takes 44 = .ok (.goto 4, 3) := by decide +kernel
theorem dX5_takes_47 : decode cX5_takes 47 = .ok (.iconst 1, 1) := by decide +kernel
theorem dX5_takes_48 : decode cX5_takes 48 = .ok (.ireturn, 1) := by decide +kernel
theorem dX5_canPrint_0 : decode cX5_canPrint 0 = .ok (.aload_n 0, 1) := by decide +kernel
theorem dX5_canPrint_1 : decode cX5_canPrint 1 = .ok (.getfield 406, 3) := by decide +kernel
theorem dX5_canPrint_4 : decode cX5_canPrint 4 = .ok (.ifCond .le 35, 3) := by decide +kernel
theorem dX5_canPrint_7 : decode cX5_canPrint 7 = .ok (.aload_n 0, 1) := by decide +kernel
theorem dX5_canPrint_8 : decode cX5_canPrint 8 = .ok (.getfield 314, 3) := by decide +kernel
theorem dX5_canPrint_11 : decode cX5_canPrint 11 = .ok (.aload_n 0, 1) := by decide +kernel
theorem dX5_canPrint_12 : decode cX5_canPrint 12 = .ok (.getfield 91, 3) := by decide +kernel
theorem dX5_canPrint_15 : decode cX5_canPrint 15 = .ok (.aload_n 0, 1) := by decide +kernel
theorem dX5_canPrint_16 : decode cX5_canPrint 16 = .ok (.getfield 409, 3) := by decide +kernel
theorem dX5_canPrint_19 : decode cX5_canPrint 19 = .ok (.invokestatic 317, 3) := by decide +kernel
theorem dX5_canPrint_22 : decode cX5_canPrint 22 = .ok (.ifCond .ne 17, 3) := by decide +kernel
theorem dX5_canPrint_25 : decode cX5_canPrint 25 = .ok (.aload_n 0, 1) := by decide +kernel
theorem dX5_canPrint_26 : decode cX5_canPrint 26 = .ok (.getfield 415, 3) := by decide +kernel
theorem dX5_canPrint_29 : decode cX5_canPrint 29 = .ok (.sipush 150, 3) := by decide +kernel
theorem dX5_canPrint_32 : decode cX5_canPrint 32 = .ok (.if_icmp .ge 7, 3) := by decide +kernel
theorem dX5_canPrint_35 : decode cX5_canPrint 35 = .ok (.iconst 1, 1) := by decide +kernel
theorem dX5_canPrint_36 : decode cX5_canPrint 36 = .ok (.goto 4, 3) := by decide +kernel
theorem dX5_canPrint_39 : decode cX5_canPrint 39 = .ok (.iconst 0, 1) := by decide +kernel
theorem dX5_canPrint_40 : decode cX5_canPrint 40 = .ok (.ireturn, 1) := by decide +kernel
theorem dX5_does_0 : decode cX5_does 0 = .ok (.iload_n 1, 1) := by decide +kernel
theorem dX5_does_1 : decode cX5_does 1 = .ok (.tableswitch 103 0 2 #[27, 85, 93], 27) := by decide +kernel
theorem dX5_does_28 : decode cX5_does 28 = .ok (.aload_n 0, 1) := by decide +kernel
theorem dX5_does_29 : decode cX5_does 29 = .ok (.iload_n 2, 1) := by decide +kernel
theorem dX5_does_30 : decode cX5_does 30 = .ok (.iconst 2, 1) := by decide +kernel
theorem dX5_does_31 : decode cX5_does 31 = .ok (.aload_n 0, 1) := by decide +kernel
theorem dX5_does_32 : decode cX5_does 32 = .ok (.getfield 314, 3) := by decide +kernel
theorem dX5_does_35 : decode cX5_does 35 = .ok (.invokevirtual 425, 3) := by decide +kernel
theorem dX5_does_38 : decode cX5_does 38 = .ok (.aload_n 0, 1) := by decide +kernel
theorem dX5_does_39 : decode cX5_does 39 = .ok (.iload_n 2, 1) := by decide +kernel
theorem dX5_does_40 : decode cX5_does 40 = .ok (.iconst 0, 1) := by decide +kernel
theorem dX5_does_41 : decode cX5_does 41 = .ok (.aload_n 0, 1) := by decide +kernel
theorem dX5_does_42 : decode cX5_does 42 = .ok (.iload_n 2, 1) := by decide +kernel
theorem dX5_does_43 : decode cX5_does 43 = .ok (.invokevirtual 437, 3) := by decide +kernel
theorem dX5_does_46 : decode cX5_does 46 = .ok (.ifCond .ne 7, 3) := by decide +kernel
theorem dX5_does_49 : decode cX5_does 49 = .ok (.iconst 2, 1) := by decide +kernel
theorem dX5_does_50 : decode cX5_does 50 = .ok (.goto 4, 3) := by decide +kernel
theorem dX5_does_53 : decode cX5_does 53 = .ok (.iconst 1, 1) := by decide +kernel
theorem dX5_does_54 : decode cX5_does 54 = .ok (.invokevirtual 425, 3) := by decide +kernel
theorem dX5_does_57 : decode cX5_does 57 = .ok (.aload_n 0, 1) := by decide +kernel
theorem dX5_does_58 : decode cX5_does 58 = .ok (.iload_n 2, 1) := by decide +kernel
theorem dX5_does_59 : decode cX5_does 59 = .ok (.iconst 5, 1) := by decide +kernel
theorem dX5_does_60 : decode cX5_does 60 = .ok (.aload_n 0, 1) := by decide +kernel
theorem dX5_does_61 : decode cX5_does 61 = .ok (.iload_n 2, 1) := by decide +kernel
theorem dX5_does_62 : decode cX5_does 62 = .ok (.iconst 5, 1) := by decide +kernel
theorem dX5_does_63 : decode cX5_does 63 = .ok (.invokevirtual 434, 3) := by decide +kernel
theorem dX5_does_66 : decode cX5_does 66 = .ok (.aload_n 0, 1) := by decide +kernel
theorem dX5_does_67 : decode cX5_does 67 = .ok (.iload_n 2, 1) := by decide +kernel
theorem dX5_does_68 : decode cX5_does 68 = .ok (.invokevirtual 437, 3) := by decide +kernel
theorem dX5_does_71 : decode cX5_does 71 = .ok (.ifCond .ne 7, 3) := by decide +kernel
theorem dX5_does_74 : decode cX5_does 74 = .ok (.iconst 0, 1) := by decide +kernel
theorem dX5_does_75 : decode cX5_does 75 = .ok (.goto 4, 3) := by decide +kernel
theorem dX5_does_78 : decode cX5_does 78 = .ok (.iconst 1, 1) := by decide +kernel
theorem dX5_does_79 : decode cX5_does 79 = .ok (.iadd, 1) := by decide +kernel
theorem dX5_does_80 : decode cX5_does 80 = .ok (.invokevirtual 425, 3) := by decide +kernel
theorem dX5_does_83 : decode cX5_does 83 = .ok (.goto 26, 3) := by decide +kernel
theorem dX5_does_86 : decode cX5_does 86 = .ok (.aload_n 0, 1) := by decide +kernel
theorem dX5_does_87 : decode cX5_does 87 = .ok (.iload_n 2, 1) := by decide +kernel
theorem dX5_does_88 : decode cX5_does 88 = .ok (.invokevirtual 440, 3) := by decide +kernel
theorem dX5_does_91 : decode cX5_does 91 = .ok (.goto 18, 3) := by decide +kernel
theorem dX5_does_94 : decode cX5_does 94 = .ok (.aload_n 0, 1) := by decide +kernel
theorem dX5_does_95 : decode cX5_does 95 = .ok (.iload_n 2, 1) := by decide +kernel
theorem dX5_does_96 : decode cX5_does 96 = .ok (.iconst 0, 1) := by decide +kernel
theorem dX5_does_97 : decode cX5_does 97 = .ok (.iconst 5, 1) := by decide +kernel
theorem dX5_does_98 : decode cX5_does 98 = .ok (.invokevirtual 425, 3) := by decide +kernel
theorem dX5_does_101 : decode cX5_does 101 = .ok (.goto 8, 3) := by decide +kernel
theorem dX5_does_104 : decode cX5_does 104 = .ok (.aload_n 0, 1) := by decide +kernel
theorem dX5_does_105 : decode cX5_does 105 = .ok (.iload_n 2, 1) := by decide +kernel
theorem dX5_does_106 : decode cX5_does 106 = .ok (.invokevirtual 462, 3) := by decide +kernel
theorem dX5_does_109 : decode cX5_does 109 = .ok (.return_, 1) := by decide +kernel
theorem dX5_prints_0 : decode cX5_prints 0 = .ok (.aload_n 0, 1) := by decide +kernel
theorem dX5_prints_1 : decode cX5_prints 1 = .ok (.getfield 112, 3) := by decide +kernel
theorem dX5_prints_4 : decode cX5_prints 4 = .ok (.iload_n 1, 1) := by decide +kernel
theorem dX5_prints_5 : decode cX5_prints 5 = .ok (.iaload, 1) := by decide +kernel
theorem dX5_prints_6 : decode cX5_prints 6 = .ok (.istore_n 2, 1) := by decide +kernel
theorem dX5_prints_7 : decode cX5_prints 7 = .ok (.iconst 0, 1) := by decide +kernel
theorem dX5_prints_8 : decode cX5_prints 8 = .ok (.istore_n 3, 1) := by decide +kernel
theorem dX5_prints_9 : decode cX5_prints 9 = .ok (.iload_n 3, 1) := by decide +kernel
theorem dX5_prints_10 : decode cX5_prints 10 = .ok (.aload_n 0, 1) := by decide +kernel
theorem dX5_prints_11 : decode cX5_prints 11 = .ok (.getfield 415, 3) := by decide +kernel
theorem dX5_prints_14 : decode cX5_prints 14 = .ok (.if_icmp .ge 65, 3) := by decide +kernel
theorem dX5_prints_17 : decode cX5_prints 17 = .ok (.aload_n 0, 1) := by decide +kernel
theorem dX5_prints_18 : decode cX5_prints 18 = .ok (.getfield 115, 3) := by decide +kernel
theorem dX5_prints_21 : decode cX5_prints 21 = .ok (.iload_n 1, 1) := by decide +kernel
theorem dX5_prints_22 : decode cX5_prints 22 = .ok (.iaload, 1) := by decide +kernel
theorem dX5_prints_23 : decode cX5_prints 23 = .ok (.iconst 3, 1) := by decide +kernel
theorem dX5_prints_24 : decode cX5_prints 24 = .ok (.if_icmp .eq 55, 3) := by decide +kernel
theorem dX5_prints_27 : decode cX5_prints 27 = .ok (.aload_n 0, 1) := by decide +kernel
theorem dX5_prints_28 : decode cX5_prints 28 = .ok (.getfield 151, 3) := by decide +kernel
theorem dX5_prints_31 : decode cX5_prints 31 = .ok (.iload_n 3, 1) := by decide +kernel
theorem dX5_prints_32 : decode cX5_prints 32 = .ok (.iaload, 1) := by decide +kernel
theorem dX5_prints_33 : decode cX5_prints 33 = .ok (.iload_n 2, 1) := by decide +kernel
theorem dX5_prints_34 : decode cX5_prints 34 = .ok (.if_icmp .ne 39, 3) := by decide +kernel
theorem dX5_prints_37 : decode cX5_prints 37 = .ok (.aload_n 0, 1) := by decide +kernel
theorem dX5_prints_38 : decode cX5_prints 38 = .ok (.getfield 154, 3) := by decide +kernel
theorem dX5_prints_41 : decode cX5_prints 41 = .ok (.iload_n 3, 1) := by decide +kernel
theorem dX5_prints_42 : decode cX5_prints 42 = .ok (.iaload, 1) := by decide +kernel
theorem dX5_prints_43 : decode cX5_prints 43 = .ok (.aload_n 0, 1) := by decide +kernel
theorem dX5_prints_44 : decode cX5_prints 44 = .ok (.getfield 314, 3) := by decide +kernel
theorem dX5_prints_47 : decode cX5_prints 47 = .ok (.if_icmp .gt 26, 3) := by decide +kernel
theorem dX5_prints_50 : decode cX5_prints 50 = .ok (.aload_n 0, 1) := by decide +kernel
theorem dX5_prints_51 : decode cX5_prints 51 = .ok (.getfield 314, 3) := by decide +kernel
theorem dX5_prints_54 : decode cX5_prints 54 = .ok (.aload_n 0, 1) := by decide +kernel
theorem dX5_prints_55 : decode cX5_prints 55 = .ok (.getfield 157, 3) := by decide +kernel
theorem dX5_prints_58 : decode cX5_prints 58 = .ok (.iload_n 3, 1) := by decide +kernel
theorem dX5_prints_59 : decode cX5_prints 59 = .ok (.iaload, 1) := by decide +kernel
theorem dX5_prints_60 : decode cX5_prints 60 = .ok (.if_icmp .ge 13, 3) := by decide +kernel
theorem dX5_prints_63 : decode cX5_prints 63 = .ok (.aload_n 0, 1) := by decide +kernel
theorem dX5_prints_64 : decode cX5_prints 64 = .ok (.getfield 157, 3) := by decide +kernel
theorem dX5_prints_67 : decode cX5_prints 67 = .ok (.iload_n 3, 1) := by decide +kernel
theorem dX5_prints_68 : decode cX5_prints 68 = .ok (.aload_n 0, 1) := by decide +kernel
theorem dX5_prints_69 : decode cX5_prints 69 = .ok (.getfield 314, 3) := by decide +kernel
theorem dX5_prints_72 : decode cX5_prints 72 = .ok (.iastore, 1) := by decide +kernel
theorem dX5_prints_73 : decode cX5_prints 73 = .ok (.iinc 3 1, 3) := by decide +kernel
theorem dX5_prints_76 : decode cX5_prints 76 = .ok (.goto (-67), 3) := by decide +kernel
theorem dX5_prints_79 : decode cX5_prints 79 = .ok (.aload_n 0, 1) := by decide +kernel
theorem dX5_prints_80 : decode cX5_prints 80 = .ok (.getfield 151, 3) := by decide +kernel
theorem dX5_prints_83 : decode cX5_prints 83 = .ok (.aload_n 0, 1) := by decide +kernel
theorem dX5_prints_84 : decode cX5_prints 84 = .ok (.getfield 415, 3) := by decide +kernel
theorem dX5_prints_87 : decode cX5_prints 87 = .ok (.iload_n 2, 1) := by decide +kernel
theorem dX5_prints_88 : decode cX5_prints 88 = .ok (.iastore, 1) := by decide +kernel
theorem dX5_prints_89 : decode cX5_prints 89 = .ok (.aload_n 0, 1) := by decide +kernel
theorem dX5_prints_90 : decode cX5_prints 90 = .ok (.getfield 154, 3) := by decide +kernel
theorem dX5_prints_93 : decode cX5_prints 93 = .ok (.aload_n 0, 1) := by decide +kernel
theorem dX5_prints_94 : decode cX5_prints 94 = .ok (.getfield 415, 3) := by decide +kernel
theorem dX5_prints_97 : decode cX5_prints 97 = .ok (.aload_n 0, 1) := by decide +kernel
theorem dX5_prints_98 : decode cX5_prints 98 = .ok (.getfield 314, 3) := by decide +kernel
theorem dX5_prints_101 : decode cX5_prints 101 = .ok (.iastore, 1) := by decide +kernel
theorem dX5_prints_102 : decode cX5_prints 102 = .ok (.aload_n 0, 1) := by decide +kernel
theorem dX5_prints_103 : decode cX5_prints 103 = .ok (.getfield 157, 3) := by decide +kernel
theorem dX5_prints_106 : decode cX5_prints 106 = .ok (.aload_n 0, 1) := by decide +kernel
theorem dX5_prints_107 : decode cX5_prints 107 = .ok (.getfield 415, 3) := by decide +kernel
theorem dX5_prints_110 : decode cX5_prints 110 = .ok (.aload_n 0, 1) := by decide +kernel
theorem dX5_prints_111 : decode cX5_prints 111 = .ok (.getfield 314, 3) := by decide +kernel
theorem dX5_prints_114 : decode cX5_prints 114 = .ok (.sipush 365, 3) := by decide +kernel
theorem dX5_prints_117 : decode cX5_prints 117 = .ok (.aload_n 0, 1) := by decide +kernel
theorem dX5_prints_118 : decode cX5_prints 118 = .ok (.getfield 136, 3) := by decide +kernel
theorem dX5_prints_121 : decode cX5_prints 121 = .ok (.iload_n 1, 1) := by decide +kernel
theorem dX5_prints_122 : decode cX5_prints 122 = .ok (.iaload, 1) := by decide +kernel
theorem dX5_prints_123 : decode cX5_prints 123 = .ok (.imul, 1) := by decide +kernel
theorem dX5_prints_124 : decode cX5_prints 124 = .ok (.iadd, 1) := by decide +kernel
theorem dX5_prints_125 : decode cX5_prints 125 = .ok (.iastore, 1) := by decide +kernel
theorem dX5_prints_126 : decode cX5_prints 126 = .ok (.aload_n 0, 1) := by decide +kernel
theorem dX5_prints_127 : decode cX5_prints 127 = .ok (.getfield 160, 3) := by decide +kernel
theorem dX5_prints_130 : decode cX5_prints 130 = .ok (.aload_n 0, 1) := by decide +kernel
theorem dX5_prints_131 : decode cX5_prints 131 = .ok (.getfield 415, 3) := by decide +kernel
theorem dX5_prints_134 : decode cX5_prints 134 = .ok (.iload_n 1, 1) := by decide +kernel
theorem dX5_prints_135 : decode cX5_prints 135 = .ok (.iastore, 1) := by decide +kernel
theorem dX5_prints_136 : decode cX5_prints 136 = .ok (.aload_n 0, 1) := by decide +kernel
theorem dX5_prints_137 : decode cX5_prints 137 = .ok (.iload_n 1, 1) := by decide +kernel
theorem dX5_prints_138 : decode cX5_prints 138 = .ok (.iconst 1, 1) := by decide +kernel
theorem dX5_prints_139 : decode cX5_prints 139 = .ok (.aload_n 0, 1) := by decide +kernel
theorem dX5_prints_140 : decode cX5_prints 140 = .ok (.getfield 415, 3) := by decide +kernel
theorem dX5_prints_143 : decode cX5_prints 143 = .ok (.invokevirtual 425, 3) := by decide +kernel
theorem dX5_prints_146 : decode cX5_prints 146 = .ok (.aload_n 0, 1) := by decide +kernel
theorem dX5_prints_147 : decode cX5_prints 147 = .ok (.dup, 1) := by decide +kernel
theorem dX5_prints_148 : decode cX5_prints 148 = .ok (.getfield 415, 3) := by decide +kernel
theorem dX5_prints_151 : decode cX5_prints 151 = .ok (.iconst 1, 1) := by decide +kernel
theorem dX5_prints_152 : decode cX5_prints 152 = .ok (.iadd, 1) := by decide +kernel
theorem dX5_prints_153 : decode cX5_prints 153 = .ok (.putfield 415, 3) := by decide +kernel
theorem dX5_prints_156 : decode cX5_prints 156 = .ok (.aload_n 0, 1) := by decide +kernel
theorem dX5_prints_157 : decode cX5_prints 157 = .ok (.dup, 1) := by decide +kernel
theorem dX5_prints_158 : decode cX5_prints 158 = .ok (.getfield 406, 3) := by decide +kernel
theorem dX5_prints_161 : decode cX5_prints 161 = .ok (.iconst 1, 1) := by decide +kernel
theorem dX5_prints_162 : decode cX5_prints 162 = .ok (.isub, 1) := by decide +kernel
theorem dX5_prints_163 : decode cX5_prints 163 = .ok (.putfield 406, 3) := by decide +kernel
theorem dX5_prints_166 : decode cX5_prints 166 = .ok (.aload_n 0, 1) := by decide +kernel
theorem dX5_prints_167 : decode cX5_prints 167 = .ok (.getfield 58, 3) := by decide +kernel
theorem dX5_prints_170 : decode cX5_prints 170 = .ok (.iload_n 2, 1) := by decide +kernel
theorem dX5_prints_171 : decode cX5_prints 171 = .ok (.baload, 1) := by decide +kernel
theorem dX5_prints_172 : decode cX5_prints 172 = .ok (.ifCond .eq 10, 3) := by decide +kernel
theorem dX5_prints_175 : decode cX5_prints 175 = .ok (.aload_n 0, 1) := by decide +kernel
theorem dX5_prints_176 : decode cX5_prints 176 = .ok (.getfield 88, 3) := by decide +kernel
theorem dX5_prints_179 : decode cX5_prints 179 = .ok (.goto 7, 3) := by decide +kernel
theorem dX5_prints_182 : decode cX5_prints 182 = .ok (.aload_n 0, 1) := by decide +kernel
theorem dX5_prints_183 : decode cX5_prints 183 = .ok (.getfield 85, 3) := by decide +kernel
theorem dX5_prints_186 : decode cX5_prints 186 = .ok (.istore_n 3, 1) := by decide +kernel
theorem dX5_prints_187 : decode cX5_prints 187 = .ok (.aload_n 0, 1) := by decide +kernel
theorem dX5_prints_188 : decode cX5_prints 188 = .ok (.iload_n 1, 1) := by decide +kernel
theorem dX5_prints_189 : decode cX5_prints 189 = .ok (.iconst 4, 1) := by decide +kernel
theorem dX5_prints_190 : decode cX5_prints 190 = .ok (.aload_n 0, 1) := by decide +kernel
theorem dX5_prints_191 : decode cX5_prints 191 = .ok (.getfield 314, 3) := by decide +kernel
theorem dX5_prints_194 : decode cX5_prints 194 = .ok (.iload_n 3, 1) := by decide +kernel
theorem dX5_prints_195 : decode cX5_prints 195 = .ok (.iadd, 1) := by decide +kernel
theorem dX5_prints_196 : decode cX5_prints 196 = .ok (.invokevirtual 425, 3) := by decide +kernel
theorem dX5_prints_199 : decode cX5_prints 199 = .ok (.iload_n 3, 1) := by decide +kernel
theorem dX5_prints_200 : decode cX5_prints 200 = .ok (.ifCond .ne 11, 3) := by decide +kernel
theorem dX5_prints_203 : decode cX5_prints 203 = .ok (.aload_n 0, 1) := by decide +kernel
theorem dX5_prints_204 : decode cX5_prints 204 = .ok (.iload_n 1, 1) := by decide +kernel
theorem dX5_prints_205 : decode cX5_prints 205 = .ok (.invokevirtual 459, 3) := by decide +kernel
theorem dX5_prints_208 : decode cX5_prints 208 = .ok (.goto 11, 3) := by decide +kernel
theorem dX5_prints_211 : decode cX5_prints 211 = .ok (.aload_n 0, 1) := by decide +kernel
theorem dX5_prints_212 : decode cX5_prints 212 = .ok (.iload_n 1, 1) := by decide +kernel
theorem dX5_prints_213 : decode cX5_prints 213 = .ok (.iconst 0, 1) := by decide +kernel
theorem dX5_prints_214 : decode cX5_prints 214 = .ok (.bipush 6, 2) := by decide +kernel
theorem dX5_prints_216 : decode cX5_prints 216 = .ok (.invokevirtual 425, 3) := by decide +kernel
theorem dX5_prints_219 : decode cX5_prints 219 = .ok (.return_, 1) := by decide +kernel
theorem dX5_refuse_0 : decode cX5_refuse 0 = .ok (.aload_n 0, 1) := by decide +kernel
theorem dX5_refuse_1 : decode cX5_refuse 1 = .ok (.iconst 0, 1) := by decide +kernel
theorem dX5_refuse_2 : decode cX5_refuse 2 = .ok (.putfield 178, 3) := by decide +kernel
theorem dX5_refuse_5 : decode cX5_refuse 5 = .ok (.aload_n 0, 1) := by decide +kernel
theorem dX5_refuse_6 : decode cX5_refuse 6 = .ok (.aload_n 0, 1) := by decide +kernel
theorem dX5_refuse_7 : decode cX5_refuse 7 = .ok (.iload_n 1, 1) := by decide +kernel
theorem dX5_refuse_8 : decode cX5_refuse 8 = .ok (.invokevirtual 431, 3) := by decide +kernel
theorem dX5_refuse_11 : decode cX5_refuse 11 = .ok (.iconst 1, 1) := by decide +kernel
theorem dX5_refuse_12 : decode cX5_refuse 12 = .ok (.invokevirtual 321, 3) := by decide +kernel
theorem dX5_refuse_15 : decode cX5_refuse 15 = .ok (.ifCond .ne 26, 3) := by decide +kernel
theorem dX5_refuse_18 : decode cX5_refuse 18 = .ok (.aload_n 0, 1) := by decide +kernel
theorem dX5_refuse_19 : decode cX5_refuse 19 = .ok (.aload_n 0, 1) := by decide +kernel
theorem dX5_refuse_20 : decode cX5_refuse 20 = .ok (.iload_n 1, 1) := by decide +kernel
theorem dX5_refuse_21 : decode cX5_refuse 21 = .ok (.iconst 0, 1) := by decide +kernel
theorem dX5_refuse_22 : decode cX5_refuse 22 = .ok (.invokevirtual 434, 3) := by decide +kernel
theorem dX5_refuse_25 : decode cX5_refuse 25 = .ok (.iconst 5, 1) := by decide +kernel
theorem dX5_refuse_26 : decode cX5_refuse 26 = .ok (.if_icmp .le 7, 3) := by decide +kernel
theorem dX5_refuse_29 : decode cX5_refuse 29 = .ok (.iconst 1, 1) := by decide +kernel
theorem dX5_refuse_30 : decode cX5_refuse 30 = .ok (.goto 4, 3) := by decide +kernel
theorem dX5_refuse_33 : decode cX5_refuse 33 = .ok (.iconst 0, 1) := by decide +kernel
theorem dX5_refuse_34 : decode cX5_refuse 34 = .ok (.iconst 2, 1) := by decide +kernel
theorem dX5_refuse_35 : decode cX5_refuse 35 = .ok (.invokevirtual 321, 3) := by decide +kernel
theorem dX5_refuse_38 : decode cX5_refuse 38 = .ok (.ifCond .eq 4, 3) := by decide +kernel
theorem dX5_refuse_41 : decode cX5_refuse 41 = .ok (.return_, 1) := by decide +kernel
theorem dX5_refuse_42 : decode cX5_refuse 42 = .ok (.aload_n 0, 1) := by decide +kernel
theorem dX5_refuse_43 : decode cX5_refuse 43 = .ok (.iload_n 1, 1) := by decide +kernel
theorem dX5_refuse_44 : decode cX5_refuse 44 = .ok (.iconst 0, 1) := by decide +kernel
theorem dX5_refuse_45 : decode cX5_refuse 45 = .ok (.bipush 9, 2) := by decide +kernel
theorem dX5_refuse_47 : decode cX5_refuse 47 = .ok (.invokevirtual 425, 3) := by decide +kernel
theorem dX5_refuse_50 : decode cX5_refuse 50 = .ok (.return_, 1) := by decide +kernel
theorem dX5_lose_0 : decode cX5_lose 0 = .ok (.aload_n 0, 1) := by decide +kernel
theorem dX5_lose_1 : decode cX5_lose 1 = .ok (.iconst 0, 1) := by decide +kernel
theorem dX5_lose_2 : decode cX5_lose 2 = .ok (.putfield 178, 3) := by decide +kernel
theorem dX5_lose_5 : decode cX5_lose 5 = .ok (.aload_n 0, 1) := by decide +kernel
theorem dX5_lose_6 : decode cX5_lose 6 = .ok (.aload_n 0, 1) := by decide +kernel
theorem dX5_lose_7 : decode cX5_lose 7 = .ok (.iload_n 1, 1) := by decide +kernel
theorem dX5_lose_8 : decode cX5_lose 8 = .ok (.invokevirtual 431, 3) := by decide +kernel
theorem dX5_lose_11 : decode cX5_lose 11 = .ok (.iconst 1, 1) := by decide +kernel
theorem dX5_lose_12 : decode cX5_lose 12 = .ok (.invokevirtual 321, 3) := by decide +kernel
theorem dX5_lose_15 : decode cX5_lose 15 = .ok (.ifCond .ne 27, 3) := by decide +kernel
theorem dX5_lose_18 : decode cX5_lose 18 = .ok (.aload_n 0, 1) := by decide +kernel
theorem dX5_lose_19 : decode cX5_lose 19 = .ok (.aload_n 0, 1) := by decide +kernel
theorem dX5_lose_20 : decode cX5_lose 20 = .ok (.iload_n 1, 1) := by decide +kernel
theorem dX5_lose_21 : decode cX5_lose 21 = .ok (.iconst 0, 1) := by decide +kernel
theorem dX5_lose_22 : decode cX5_lose 22 = .ok (.invokevirtual 434, 3) := by decide +kernel
theorem dX5_lose_25 : decode cX5_lose 25 = .ok (.bipush 6, 2) := by decide +kernel
theorem dX5_lose_27 : decode cX5_lose 27 = .ok (.if_icmp .eq 7, 3) := by decide +kernel
theorem dX5_lose_30 : decode cX5_lose 30 = .ok (.iconst 1, 1) := by decide +kernel
theorem dX5_lose_31 : decode cX5_lose 31 = .ok (.goto 4, 3) := by decide +kernel
theorem dX5_lose_34 : decode cX5_lose 34 = .ok (.iconst 0, 1) := by decide +kernel
theorem dX5_lose_35 : decode cX5_lose 35 = .ok (.iconst 2, 1) := by decide +kernel
theorem dX5_lose_36 : decode cX5_lose 36 = .ok (.invokevirtual 321, 3) := by decide +kernel
theorem dX5_lose_39 : decode cX5_lose 39 = .ok (.ifCond .eq 4, 3) := by decide +kernel
theorem dX5_lose_42 : decode cX5_lose 42 = .ok (.return_, 1) := by decide +kernel
theorem dX5_lose_43 : decode cX5_lose 43 = .ok (.aload_n 0, 1) := by decide +kernel
theorem dX5_lose_44 : decode cX5_lose 44 = .ok (.iload_n 1, 1) := by decide +kernel
theorem dX5_lose_45 : decode cX5_lose 45 = .ok (.iconst 0, 1) := by decide +kernel
theorem dX5_lose_46 : decode cX5_lose 46 = .ok (.bipush 8, 2) := by decide +kernel
theorem dX5_lose_48 : decode cX5_lose 48 = .ok (.invokevirtual 425, 3) := by decide +kernel
theorem dX5_lose_51 : decode cX5_lose 51 = .ok (.aload_n 0, 1) := by decide +kernel
theorem dX5_lose_52 : decode cX5_lose 52 = .ok (.iload_n 1, 1) := by decide +kernel
theorem dX5_lose_53 : decode cX5_lose 53 = .ok (.iconst 1, 1) := by decide +kernel
theorem dX5_lose_54 : decode cX5_lose 54 = .ok (.invokevirtual 434, 3) := by decide +kernel
theorem dX5_lose_57 : decode cX5_lose 57 = .ok (.istore_n 2, 1) := by decide +kernel
theorem dX5_lose_58 : decode cX5_lose 58 = .ok (.aload_n 0, 1) := by decide +kernel
theorem dX5_lose_59 : decode cX5_lose 59 = .ok (.getfield 157, 3) := by decide +kernel
theorem dX5_lose_62 : decode cX5_lose 62 = .ok (.iload_n 2, 1) := by decide +kernel
theorem dX5_lose_63 : decode cX5_lose 63 = .ok (.aload_n 0, 1) := by decide +kernel
theorem dX5_lose_64 : decode cX5_lose 64 = .ok (.getfield 157, 3) := by decide +kernel
theorem dX5_lose_67 : decode cX5_lose 67 = .ok (.iload_n 2, 1) := by decide +kernel
theorem dX5_lose_68 : decode cX5_lose 68 = .ok (.iaload, 1) := by decide +kernel
theorem dX5_lose_69 : decode cX5_lose 69 = .ok (.aload_n 0, 1) := by decide +kernel
theorem dX5_lose_70 : decode cX5_lose 70 = .ok (.getfield 314, 3) := by decide +kernel
theorem dX5_lose_73 : decode cX5_lose 73 = .ok (.invokestatic 369, 3) := by decide +kernel
theorem dX5_lose_76 : decode cX5_lose 76 = .ok (.iastore, 1) := by decide +kernel
theorem dX5_lose_77 : decode cX5_lose 77 = .ok (.return_, 1) := by decide +kernel
theorem dX5_again_0 : decode cX5_again 0 = .ok (.aload_n 0, 1) := by decide +kernel
theorem dX5_again_1 : decode cX5_again 1 = .ok (.iconst 0, 1) := by decide +kernel
theorem dX5_again_2 : decode cX5_again 2 = .ok (.putfield 178, 3) := by decide +kernel
theorem dX5_again_5 : decode cX5_again 5 = .ok (.aload_n 0, 1) := by decide +kernel
theorem dX5_again_6 : decode cX5_again 6 = .ok (.aload_n 0, 1) := by decide +kernel
theorem dX5_again_7 : decode cX5_again 7 = .ok (.iload_n 1, 1) := by decide +kernel
theorem dX5_again_8 : decode cX5_again 8 = .ok (.invokevirtual 431, 3) := by decide +kernel
theorem dX5_again_11 : decode cX5_again 11 = .ok (.iconst 1, 1) := by decide +kernel
