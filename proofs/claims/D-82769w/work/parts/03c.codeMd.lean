/-! method names and decode rows: X5 J11 -/
set_option maxRecDepth 100000
theorem dX5_again_12 : decode cX5_again 12 = .ok (.invokevirtual 321, 3) := by decide +kernel
theorem dX5_again_15 : decode cX5_again 15 = .ok (.ifCond .ne 27, 3) := by decide +kernel
theorem dX5_again_18 : decode cX5_again 18 = .ok (.aload_n 0, 1) := by decide +kernel
theorem dX5_again_19 : decode cX5_again 19 = .ok (.aload_n 0, 1) := by decide +kernel
theorem dX5_again_20 : decode cX5_again 20 = .ok (.iload_n 1, 1) := by decide +kernel
theorem dX5_again_21 : decode cX5_again 21 = .ok (.iconst 0, 1) := by decide +kernel
theorem dX5_again_22 : decode cX5_again 22 = .ok (.invokevirtual 434, 3) := by decide +kernel
theorem dX5_again_25 : decode cX5_again 25 = .ok (.bipush 8, 2) := by decide +kernel
theorem dX5_again_27 : decode cX5_again 27 = .ok (.if_icmp .eq 7, 3) := by decide +kernel
theorem dX5_again_30 : decode cX5_again 30 = .ok (.iconst 1, 1) := by decide +kernel
theorem dX5_again_31 : decode cX5_again 31 = .ok (.goto 4, 3) := by decide +kernel
theorem dX5_again_34 : decode cX5_again 34 = .ok (.iconst 0, 1) := by decide +kernel
theorem dX5_again_35 : decode cX5_again 35 = .ok (.iconst 2, 1) := by decide +kernel
theorem dX5_again_36 : decode cX5_again 36 = .ok (.invokevirtual 321, 3) := by decide +kernel
theorem dX5_again_39 : decode cX5_again 39 = .ok (.ifCond .eq 4, 3) := by decide +kernel
theorem dX5_again_42 : decode cX5_again 42 = .ok (.return_, 1) := by decide +kernel
theorem dX5_again_43 : decode cX5_again 43 = .ok (.aload_n 0, 1) := by decide +kernel
theorem dX5_again_44 : decode cX5_again 44 = .ok (.iload_n 1, 1) := by decide +kernel
theorem dX5_again_45 : decode cX5_again 45 = .ok (.iconst 0, 1) := by decide +kernel
theorem dX5_again_46 : decode cX5_again 46 = .ok (.iconst 5, 1) := by decide +kernel
theorem dX5_again_47 : decode cX5_again 47 = .ok (.invokevirtual 425, 3) := by decide +kernel
theorem dX5_again_50 : decode cX5_again 50 = .ok (.aload_n 0, 1) := by decide +kernel
theorem dX5_again_51 : decode cX5_again 51 = .ok (.iload_n 1, 1) := by decide +kernel
theorem dX5_again_52 : decode cX5_again 52 = .ok (.iconst 4, 1) := by decide +kernel
theorem dX5_again_53 : decode cX5_again 53 = .ok (.iconst (-1), 1) := by decide +kernel
theorem dX5_again_54 : decode cX5_again 54 = .ok (.invokevirtual 425, 3) := by decide +kernel
theorem dX5_again_57 : decode cX5_again 57 = .ok (.return_, 1) := by decide +kernel
theorem dX5_led_0 : decode cX5_led 0 = .ok (.aload_n 0, 1) := by decide +kernel
theorem dX5_led_1 : decode cX5_led 1 = .ok (.iconst 0, 1) := by decide +kernel
theorem dX5_led_2 : decode cX5_led 2 = .ok (.putfield 178, 3) := by decide +kernel
theorem dX5_led_5 : decode cX5_led 5 = .ok (.aload_n 0, 1) := by decide +kernel
theorem dX5_led_6 : decode cX5_led 6 = .ok (.aload_n 0, 1) := by decide +kernel
theorem dX5_led_7 : decode cX5_led 7 = .ok (.iload_n 1, 1) := by decide +kernel
theorem dX5_led_8 : decode cX5_led 8 = .ok (.invokevirtual 431, 3) := by decide +kernel
theorem dX5_led_11 : decode cX5_led 11 = .ok (.iconst 1, 1) := by decide +kernel
theorem dX5_led_12 : decode cX5_led 12 = .ok (.invokevirtual 321, 3) := by decide +kernel
theorem dX5_led_15 : decode cX5_led 15 = .ok (.ifCond .eq 5, 3) := by decide +kernel
theorem dX5_led_18 : decode cX5_led 18 = .ok (.iconst 0, 1) := by decide +kernel
theorem dX5_led_19 : decode cX5_led 19 = .ok (.ireturn, 1) := by decide +kernel
theorem dX5_led_20 : decode cX5_led 20 = .ok (.iload_n 2, 1) := by decide +kernel
theorem dX5_led_21 : decode cX5_led 21 = .ok (.tableswitch 191 0 15 #[79, 86, 93, 100, 107, 114, 121, 127, 134, 142, 149, 156, 163, 170, 177, 184], 79) := by decide +kernel
theorem dX5_led_100 : decode cX5_led 100 = .ok (.aload_n 0, 1) := by decide +kernel
theorem dX5_led_101 : decode cX5_led 101 = .ok (.iload_n 1, 1) := by decide +kernel
theorem dX5_led_102 : decode cX5_led 102 = .ok (.iconst 0, 1) := by decide +kernel
theorem dX5_led_103 : decode cX5_led 103 = .ok (.invokevirtual 434, 3) := by decide +kernel
theorem dX5_led_106 : decode cX5_led 106 = .ok (.ireturn, 1) := by decide +kernel
theorem dX5_led_107 : decode cX5_led 107 = .ok (.aload_n 0, 1) := by decide +kernel
theorem dX5_led_108 : decode cX5_led 108 = .ok (.getfield 112, 3) := by decide +kernel
theorem dX5_led_111 : decode cX5_led 111 = .ok (.iload_n 1, 1) := by decide +kernel
theorem dX5_led_112 : decode cX5_led 112 = .ok (.iaload, 1) := by decide +kernel
theorem dX5_led_113 : decode cX5_led 113 = .ok (.ireturn, 1) := by decide +kernel
theorem dX5_led_114 : decode cX5_led 114 = .ok (.aload_n 0, 1) := by decide +kernel
theorem dX5_led_115 : decode cX5_led 115 = .ok (.getfield 115, 3) := by decide +kernel
theorem dX5_led_118 : decode cX5_led 118 = .ok (.iload_n 1, 1) := by decide +kernel
theorem dX5_led_119 : decode cX5_led 119 = .ok (.iaload, 1) := by decide +kernel
theorem dX5_led_120 : decode cX5_led 120 = .ok (.ireturn, 1) := by decide +kernel
theorem dX5_led_121 : decode cX5_led 121 = .ok (.aload_n 0, 1) := by decide +kernel
theorem dX5_led_122 : decode cX5_led 122 = .ok (.getfield 118, 3) := by decide +kernel
theorem dX5_led_125 : decode cX5_led 125 = .ok (.iload_n 1, 1) := by decide +kernel
theorem dX5_led_126 : decode cX5_led 126 = .ok (.iaload, 1) := by decide +kernel
theorem dX5_led_127 : decode cX5_led 127 = .ok (.ireturn, 1) := by decide +kernel
theorem dX5_led_128 : decode cX5_led 128 = .ok (.aload_n 0, 1) := by decide +kernel
theorem dX5_led_129 : decode cX5_led 129 = .ok (.getfield 121, 3) := by decide +kernel
theorem dX5_led_132 : decode cX5_led 132 = .ok (.iload_n 1, 1) := by decide +kernel
theorem dX5_led_133 : decode cX5_led 133 = .ok (.iaload, 1) := by decide +kernel
theorem dX5_led_134 : decode cX5_led 134 = .ok (.ireturn, 1) := by decide +kernel
theorem dX5_led_135 : decode cX5_led 135 = .ok (.aload_n 0, 1) := by decide +kernel
theorem dX5_led_136 : decode cX5_led 136 = .ok (.getfield 124, 3) := by decide +kernel
theorem dX5_led_139 : decode cX5_led 139 = .ok (.iload_n 1, 1) := by decide +kernel
theorem dX5_led_140 : decode cX5_led 140 = .ok (.iaload, 1) := by decide +kernel
theorem dX5_led_141 : decode cX5_led 141 = .ok (.ireturn, 1) := by decide +kernel
theorem dX5_led_142 : decode cX5_led 142 = .ok (.aload_n 0, 1) := by decide +kernel
theorem dX5_led_143 : decode cX5_led 143 = .ok (.iload_n 1, 1) := by decide +kernel
theorem dX5_led_144 : decode cX5_led 144 = .ok (.invokevirtual 437, 3) := by decide +kernel
theorem dX5_led_147 : decode cX5_led 147 = .ok (.ireturn, 1) := by decide +kernel
theorem dX5_led_148 : decode cX5_led 148 = .ok (.aload_n 0, 1) := by decide +kernel
theorem dX5_led_149 : decode cX5_led 149 = .ok (.getfield 133, 3) := by decide +kernel
theorem dX5_led_152 : decode cX5_led 152 = .ok (.iload_n 1, 1) := by decide +kernel
theorem dX5_led_153 : decode cX5_led 153 = .ok (.iaload, 1) := by decide +kernel
theorem dX5_led_154 : decode cX5_led 154 = .ok (.ireturn, 1) := by decide +kernel
theorem dX5_led_155 : decode cX5_led 155 = .ok (.aload_n 0, 1) := by decide +kernel
theorem dX5_led_156 : decode cX5_led 156 = .ok (.iload_n 1, 1) := by decide +kernel
theorem dX5_led_157 : decode cX5_led 157 = .ok (.bipush 6, 2) := by decide +kernel
theorem dX5_led_159 : decode cX5_led 159 = .ok (.invokevirtual 434, 3) := by decide +kernel
theorem dX5_led_162 : decode cX5_led 162 = .ok (.ireturn, 1) := by decide +kernel
theorem dX5_led_163 : decode cX5_led 163 = .ok (.aload_n 0, 1) := by decide +kernel
theorem dX5_led_164 : decode cX5_led 164 = .ok (.getfield 139, 3) := by decide +kernel
theorem dX5_led_167 : decode cX5_led 167 = .ok (.iload_n 1, 1) := by decide +kernel
theorem dX5_led_168 : decode cX5_led 168 = .ok (.iaload, 1) := by decide +kernel
theorem dX5_led_169 : decode cX5_led 169 = .ok (.ireturn, 1) := by decide +kernel
theorem dX5_led_170 : decode cX5_led 170 = .ok (.aload_n 0, 1) := by decide +kernel
theorem dX5_led_171 : decode cX5_led 171 = .ok (.getfield 136, 3) := by decide +kernel
theorem dX5_led_174 : decode cX5_led 174 = .ok (.iload_n 1, 1) := by decide +kernel
theorem dX5_led_175 : decode cX5_led 175 = .ok (.iaload, 1) := by decide +kernel
theorem dX5_led_176 : decode cX5_led 176 = .ok (.ireturn, 1) := by decide +kernel
theorem dX5_led_177 : decode cX5_led 177 = .ok (.aload_n 0, 1) := by decide +kernel
theorem dX5_led_178 : decode cX5_led 178 = .ok (.iload_n 1, 1) := by decide +kernel
theorem dX5_led_179 : decode cX5_led 179 = .ok (.iconst 1, 1) := by decide +kernel
theorem dX5_led_180 : decode cX5_led 180 = .ok (.invokevirtual 434, 3) := by decide +kernel
theorem dX5_led_183 : decode cX5_led 183 = .ok (.ireturn, 1) := by decide +kernel
theorem dX5_led_184 : decode cX5_led 184 = .ok (.aload_n 0, 1) := by decide +kernel
theorem dX5_led_185 : decode cX5_led 185 = .ok (.iload_n 1, 1) := by decide +kernel
theorem dX5_led_186 : decode cX5_led 186 = .ok (.iconst 2, 1) := by decide +kernel
theorem dX5_led_187 : decode cX5_led 187 = .ok (.invokevirtual 434, 3) := by decide +kernel
theorem dX5_led_190 : decode cX5_led 190 = .ok (.ireturn, 1) := by decide +kernel
theorem dX5_led_191 : decode cX5_led 191 = .ok (.aload_n 0, 1) := by decide +kernel
theorem dX5_led_192 : decode cX5_led 192 = .ok (.iload_n 1, 1) := by decide +kernel
theorem dX5_led_193 : decode cX5_led 193 = .ok (.iconst 3, 1) := by decide +kernel
theorem dX5_led_194 : decode cX5_led 194 = .ok (.invokevirtual 434, 3) := by decide +kernel
theorem dX5_led_197 : decode cX5_led 197 = .ok (.ireturn, 1) := by decide +kernel
theorem dX5_led_198 : decode cX5_led 198 = .ok (.aload_n 0, 1) := by decide +kernel
theorem dX5_led_199 : decode cX5_led 199 = .ok (.iload_n 1, 1) := by decide +kernel
theorem dX5_led_200 : decode cX5_led 200 = .ok (.iconst 4, 1) := by decide +kernel
theorem dX5_led_201 : decode cX5_led 201 = .ok (.invokevirtual 434, 3) := by decide +kernel
theorem dX5_led_204 : decode cX5_led 204 = .ok (.ireturn, 1) := by decide +kernel
theorem dX5_led_205 : decode cX5_led 205 = .ok (.aload_n 0, 1) := by decide +kernel
theorem dX5_led_206 : decode cX5_led 206 = .ok (.iload_n 1, 1) := by decide +kernel
theorem dX5_led_207 : decode cX5_led 207 = .ok (.iconst 5, 1) := by decide +kernel
theorem dX5_led_208 : decode cX5_led 208 = .ok (.invokevirtual 434, 3) := by decide +kernel
theorem dX5_led_211 : decode cX5_led 211 = .ok (.ireturn, 1) := by decide +kernel
theorem dX5_led_212 : decode cX5_led 212 = .ok (.aload_n 0, 1) := by decide +kernel
theorem dX5_led_213 : decode cX5_led 213 = .ok (.iconst 2, 1) := by decide +kernel
theorem dX5_led_214 : decode cX5_led 214 = .ok (.putfield 178, 3) := by decide +kernel
theorem dX5_led_217 : decode cX5_led 217 = .ok (.iconst 0, 1) := by decide +kernel
theorem dX5_led_218 : decode cX5_led 218 = .ok (.ireturn, 1) := by decide +kernel
theorem dX5_queue_0 : decode cX5_queue 0 = .ok (.aload_n 0, 1) := by decide +kernel
theorem dX5_queue_1 : decode cX5_queue 1 = .ok (.iconst 0, 1) := by decide +kernel
theorem dX5_queue_2 : decode cX5_queue 2 = .ok (.putfield 178, 3) := by decide +kernel
theorem dX5_queue_5 : decode cX5_queue 5 = .ok (.aload_n 0, 1) := by decide +kernel
theorem dX5_queue_6 : decode cX5_queue 6 = .ok (.iload_n 1, 1) := by decide +kernel
theorem dX5_queue_7 : decode cX5_queue 7 = .ok (.invokestatic 394, 3) := by decide +kernel
theorem dX5_queue_10 : decode cX5_queue 10 = .ok (.iconst 1, 1) := by decide +kernel
theorem dX5_queue_11 : decode cX5_queue 11 = .ok (.invokevirtual 321, 3) := by decide +kernel
theorem dX5_queue_14 : decode cX5_queue 14 = .ok (.ifCond .eq 5, 3) := by decide +kernel
theorem dX5_queue_17 : decode cX5_queue 17 = .ok (.iconst 0, 1) := by decide +kernel
theorem dX5_queue_18 : decode cX5_queue 18 = .ok (.ireturn, 1) := by decide +kernel
theorem dX5_queue_19 : decode cX5_queue 19 = .ok (.aload_n 0, 1) := by decide +kernel
theorem dX5_queue_20 : decode cX5_queue 20 = .ok (.iload_n 1, 1) := by decide +kernel
theorem dX5_queue_21 : decode cX5_queue 21 = .ok (.aload_n 0, 1) := by decide +kernel
theorem dX5_queue_22 : decode cX5_queue 22 = .ok (.getfield 403, 3) := by decide +kernel
theorem dX5_queue_25 : decode cX5_queue 25 = .ok (.invokevirtual 468, 3) := by decide +kernel
theorem dX5_queue_28 : decode cX5_queue 28 = .ok (.aload_n 0, 1) := by decide +kernel
theorem dX5_queue_29 : decode cX5_queue 29 = .ok (.getfield 447, 3) := by decide +kernel
theorem dX5_queue_32 : decode cX5_queue 32 = .ok (.ireturn, 1) := by decide +kernel
theorem dX5_ahead_0 : decode cX5_ahead 0 = .ok (.aload_n 0, 1) := by decide +kernel
theorem dX5_ahead_1 : decode cX5_ahead 1 = .ok (.iconst 0, 1) := by decide +kernel
theorem dX5_ahead_2 : decode cX5_ahead 2 = .ok (.putfield 178, 3) := by decide +kernel
theorem dX5_ahead_5 : decode cX5_ahead 5 = .ok (.aload_n 0, 1) := by decide +kernel
theorem dX5_ahead_6 : decode cX5_ahead 6 = .ok (.aload_n 0, 1) := by decide +kernel
theorem dX5_ahead_7 : decode cX5_ahead 7 = .ok (.iload_n 1, 1) := by decide +kernel
theorem dX5_ahead_8 : decode cX5_ahead 8 = .ok (.invokevirtual 431, 3) := by decide +kernel
theorem dX5_ahead_11 : decode cX5_ahead 11 = .ok (.iconst 1, 1) := by decide +kernel
theorem dX5_ahead_12 : decode cX5_ahead 12 = .ok (.invokevirtual 321, 3) := by decide +kernel
theorem dX5_ahead_15 : decode cX5_ahead 15 = .ok (.ifCond .eq 5, 3) := by decide +kernel
theorem dX5_ahead_18 : decode cX5_ahead 18 = .ok (.iconst 0, 1) := by decide +kernel
theorem dX5_ahead_19 : decode cX5_ahead 19 = .ok (.ireturn, 1) := by decide +kernel
theorem dX5_ahead_20 : decode cX5_ahead 20 = .ok (.iconst 0, 1) := by decide +kernel
theorem dX5_ahead_21 : decode cX5_ahead 21 = .ok (.istore_n 2, 1) := by decide +kernel
theorem dX5_ahead_22 : decode cX5_ahead 22 = .ok (.iload_n 2, 1) := by decide +kernel
theorem dX5_ahead_23 : decode cX5_ahead 23 = .ok (.iconst 4, 1) := by decide +kernel
theorem dX5_ahead_24 : decode cX5_ahead 24 = .ok (.if_icmp .ge 89, 3) := by decide +kernel
theorem dX5_ahead_27 : decode cX5_ahead 27 = .ok (.aload_n 0, 1) := by decide +kernel
theorem dX5_ahead_28 : decode cX5_ahead 28 = .ok (.iload_n 1, 1) := by decide +kernel
theorem dX5_ahead_29 : decode cX5_ahead 29 = .ok (.iconst 0, 1) := by decide +kernel
theorem dX5_ahead_30 : decode cX5_ahead 30 = .ok (.invokevirtual 434, 3) := by decide +kernel
theorem dX5_ahead_33 : decode cX5_ahead 33 = .ok (.iload_n 2, 1) := by decide +kernel
theorem dX5_ahead_34 : decode cX5_ahead 34 = .ok (.invokestatic 450, 3) := by decide +kernel
theorem dX5_ahead_37 : decode cX5_ahead 37 = .ok (.if_icmp .eq 6, 3) := by decide +kernel
theorem dX5_ahead_40 : decode cX5_ahead 40 = .ok (.goto 67, 3) := by decide +kernel
theorem dX5_ahead_43 : decode cX5_ahead 43 = .ok (.iconst 0, 1) := by decide +kernel
theorem dX5_ahead_44 : decode cX5_ahead 44 = .ok (.istore_n 3, 1) := by decide +kernel
theorem dX5_ahead_45 : decode cX5_ahead 45 = .ok (.iconst 0, 1) := by decide +kernel
theorem dX5_ahead_46 : decode cX5_ahead 46 = .ok (.istore 4, 2) := by decide +kernel
theorem dX5_ahead_48 : decode cX5_ahead 48 = .ok (.iload 4, 2) := by decide +kernel
theorem dX5_ahead_50 : decode cX5_ahead 50 = .ok (.aload_n 0, 1) := by decide +kernel
theorem dX5_ahead_51 : decode cX5_ahead 51 = .ok (.getfield 412, 3) := by decide +kernel
theorem dX5_ahead_54 : decode cX5_ahead 54 = .ok (.if_icmp .ge 51, 3) := by decide +kernel
theorem dX5_ahead_57 : decode cX5_ahead 57 = .ok (.iload_n 3, 1) := by decide +kernel
theorem dX5_ahead_58 : decode cX5_ahead 58 = .ok (.iload 4, 2) := by decide +kernel
theorem dX5_ahead_60 : decode cX5_ahead 60 = .ok (.iload_n 1, 1) := by decide +kernel
theorem dX5_ahead_61 : decode cX5_ahead 61 = .ok (.if_icmp .eq 35, 3) := by decide +kernel
theorem dX5_ahead_64 : decode cX5_ahead 64 = .ok (.aload_n 0, 1) := by decide +kernel
theorem dX5_ahead_65 : decode cX5_ahead 65 = .ok (.iload 4, 2) := by decide +kernel
theorem dX5_ahead_67 : decode cX5_ahead 67 = .ok (.iconst 0, 1) := by decide +kernel
theorem dX5_ahead_68 : decode cX5_ahead 68 = .ok (.invokevirtual 434, 3) := by decide +kernel
theorem dX5_ahead_71 : decode cX5_ahead 71 = .ok (.iload_n 2, 1) := by decide +kernel
theorem dX5_ahead_72 : decode cX5_ahead 72 = .ok (.invokestatic 450, 3) := by decide +kernel
theorem dX5_ahead_75 : decode cX5_ahead 75 = .ok (.if_icmp .ne 21, 3) := by decide +kernel
theorem dX5_ahead_78 : decode cX5_ahead 78 = .ok (.aload_n 0, 1) := by decide +kernel
theorem dX5_ahead_79 : decode cX5_ahead 79 = .ok (.iload 4, 2) := by decide +kernel
theorem dX5_ahead_81 : decode cX5_ahead 81 = .ok (.iload_n 1, 1) := by decide +kernel
theorem dX5_ahead_82 : decode cX5_ahead 82 = .ok (.aload_n 0, 1) := by decide +kernel
theorem dX5_ahead_83 : decode cX5_ahead 83 = .ok (.getfield 403, 3) := by decide +kernel
theorem dX5_ahead_86 : decode cX5_ahead 86 = .ok (.invokevirtual 453, 3) := by decide +kernel
theorem dX5_ahead_89 : decode cX5_ahead 89 = .ok (.ifCond .eq 7, 3) := by decide +kernel
theorem dX5_ahead_92 : decode cX5_ahead 92 = .ok (.iconst 1, 1) := by decide +kernel
theorem dX5_ahead_93 : decode cX5_ahead 93 = .ok (.goto 4, 3) := by decide +kernel
theorem dX5_ahead_96 : decode cX5_ahead 96 = .ok (.iconst 0, 1) := by decide +kernel
theorem dX5_ahead_97 : decode cX5_ahead 97 = .ok (.iadd, 1) := by decide +kernel
theorem dX5_ahead_98 : decode cX5_ahead 98 = .ok (.istore_n 3, 1) := by decide +kernel
theorem dX5_ahead_99 : decode cX5_ahead 99 = .ok (.iinc 4 1, 3) := by decide +kernel
theorem dX5_ahead_102 : decode cX5_ahead 102 = .ok (.goto (-54), 3) := by decide +kernel
theorem dX5_ahead_105 : decode cX5_ahead 105 = .ok (.iload_n 3, 1) := by decide +kernel
theorem dX5_ahead_106 : decode cX5_ahead 106 = .ok (.ireturn, 1) := by decide +kernel
theorem dX5_ahead_107 : decode cX5_ahead 107 = .ok (.iinc 2 1, 3) := by decide +kernel
theorem dX5_ahead_110 : decode cX5_ahead 110 = .ok (.goto (-88), 3) := by decide +kernel
theorem dX5_ahead_113 : decode cX5_ahead 113 = .ok (.iconst (-1), 1) := by decide +kernel
theorem dX5_ahead_114 : decode cX5_ahead 114 = .ok (.ireturn, 1) := by decide +kernel
theorem dX5_booklet_0 : decode cX5_booklet 0 = .ok (.aload_n 0, 1) := by decide +kernel
theorem dX5_booklet_1 : decode cX5_booklet 1 = .ok (.iconst 0, 1) := by decide +kernel
theorem dX5_booklet_2 : decode cX5_booklet 2 = .ok (.putfield 178, 3) := by decide +kernel
theorem dX5_booklet_5 : decode cX5_booklet 5 = .ok (.aload_n 0, 1) := by decide +kernel
theorem dX5_booklet_6 : decode cX5_booklet 6 = .ok (.iload_n 1, 1) := by decide +kernel
theorem dX5_booklet_7 : decode cX5_booklet 7 = .ok (.iconst 0, 1) := by decide +kernel
theorem dX5_booklet_8 : decode cX5_booklet 8 = .ok (.aload_n 0, 1) := by decide +kernel
theorem dX5_booklet_9 : decode cX5_booklet 9 = .ok (.getfield 415, 3) := by decide +kernel
theorem dX5_booklet_12 : decode cX5_booklet 12 = .ok (.iconst 1, 1) := by decide +kernel
theorem dX5_booklet_13 : decode cX5_booklet 13 = .ok (.isub, 1) := by decide +kernel
theorem dX5_booklet_14 : decode cX5_booklet 14 = .ok (.invokestatic 317, 3) := by decide +kernel
theorem dX5_booklet_17 : decode cX5_booklet 17 = .ok (.ifCond .ne 7, 3) := by decide +kernel
theorem dX5_booklet_20 : decode cX5_booklet 20 = .ok (.iconst 1, 1) := by decide +kernel
theorem dX5_booklet_21 : decode cX5_booklet 21 = .ok (.goto 4, 3) := by decide +kernel
theorem dX5_booklet_24 : decode cX5_booklet 24 = .ok (.iconst 0, 1) := by decide +kernel
theorem dX5_booklet_25 : decode cX5_booklet 25 = .ok (.iconst 1, 1) := by decide +kernel
theorem dX5_booklet_26 : decode cX5_booklet 26 = .ok (.invokevirtual 321, 3) := by decide +kernel
theorem dX5_booklet_29 : decode cX5_booklet 29 = .ok (.ifCond .eq 5, 3) := by decide +kernel
theorem dX5_booklet_32 : decode cX5_booklet 32 = .ok (.iconst 0, 1) := by decide +kernel
theorem dX5_booklet_33 : decode cX5_booklet 33 = .ok (.ireturn, 1) := by decide +kernel
theorem dX5_booklet_34 : decode cX5_booklet 34 = .ok (.iload_n 2, 1) := by decide +kernel
theorem dX5_booklet_35 : decode cX5_booklet 35 = .ok (.tableswitch 57 0 3 #[29, 36, 43, 50], 29) := by decide +kernel
theorem dX5_booklet_64 : decode cX5_booklet 64 = .ok (.aload_n 0, 1) := by decide +kernel
theorem dX5_booklet_65 : decode cX5_booklet 65 = .ok (.getfield 151, 3) := by decide +kernel
theorem dX5_booklet_68 : decode cX5_booklet 68 = .ok (.iload_n 1, 1) := by decide +kernel
theorem dX5_booklet_69 : decode cX5_booklet 69 = .ok (.iaload, 1) := by decide +kernel
theorem dX5_booklet_70 : decode cX5_booklet 70 = .ok (.ireturn, 1) := by decide +kernel
theorem dX5_booklet_71 : decode cX5_booklet 71 = .ok (.aload_n 0, 1) := by decide +kernel
theorem dX5_booklet_72 : decode cX5_booklet 72 = .ok (.getfield 154, 3) := by decide +kernel
theorem dX5_booklet_75 : decode cX5_booklet 75 = .ok (.iload_n 1, 1) := by decide +kernel
theorem dX5_booklet_76 : decode cX5_booklet 76 = .ok (.iaload, 1) := by decide +kernel
theorem dX5_booklet_77 : decode cX5_booklet 77 = .ok (.ireturn, 1) := by decide +kernel
theorem dX5_booklet_78 : decode cX5_booklet 78 = .ok (.aload_n 0, 1) := by decide +kernel
theorem dX5_booklet_79 : decode cX5_booklet 79 = .ok (.getfield 157, 3) := by decide +kernel
theorem dX5_booklet_82 : decode cX5_booklet 82 = .ok (.iload_n 1, 1) := by decide +kernel
theorem dX5_booklet_83 : decode cX5_booklet 83 = .ok (.iaload, 1) := by decide +kernel
theorem dX5_booklet_84 : decode cX5_booklet 84 = .ok (.ireturn, 1) := by decide +kernel
theorem dX5_booklet_85 : decode cX5_booklet 85 = .ok (.aload_n 0, 1) := by decide +kernel
theorem dX5_booklet_86 : decode cX5_booklet 86 = .ok (.getfield 160, 3) := by decide +kernel
theorem dX5_booklet_89 : decode cX5_booklet 89 = .ok (.iload_n 1, 1) := by decide +kernel
theorem dX5_booklet_90 : decode cX5_booklet 90 = .ok (.iaload, 1) := by decide +kernel
theorem dX5_booklet_91 : decode cX5_booklet 91 = .ok (.ireturn, 1) := by decide +kernel
theorem dX5_booklet_92 : decode cX5_booklet 92 = .ok (.aload_n 0, 1) := by decide +kernel
theorem dX5_booklet_93 : decode cX5_booklet 93 = .ok (.iconst 2, 1) := by decide +kernel
theorem dX5_booklet_94 : decode cX5_booklet 94 = .ok (.putfield 178, 3) := by decide +kernel
theorem dX5_booklet_97 : decode cX5_booklet 97 = .ok (.iconst 0, 1) := by decide +kernel
theorem dX5_booklet_98 : decode cX5_booklet 98 = .ok (.ireturn, 1) := by decide +kernel
theorem dX5_valid_0 : decode cX5_valid 0 = .ok (.aload_n 0, 1) := by decide +kernel
theorem dX5_valid_1 : decode cX5_valid 1 = .ok (.iconst 0, 1) := by decide +kernel
theorem dX5_valid_2 : decode cX5_valid 2 = .ok (.putfield 178, 3) := by decide +kernel
theorem dX5_valid_5 : decode cX5_valid 5 = .ok (.aload_n 0, 1) := by decide +kernel
theorem dX5_valid_6 : decode cX5_valid 6 = .ok (.aload_n 0, 1) := by decide +kernel
theorem dX5_valid_7 : decode cX5_valid 7 = .ok (.iload_n 1, 1) := by decide +kernel
theorem dX5_valid_8 : decode cX5_valid 8 = .ok (.invokevirtual 385, 3) := by decide +kernel
theorem dX5_valid_11 : decode cX5_valid 11 = .ok (.iconst 1, 1) := by decide +kernel
theorem dX5_valid_12 : decode cX5_valid 12 = .ok (.invokevirtual 321, 3) := by decide +kernel
theorem dX5_valid_15 : decode cX5_valid 15 = .ok (.ifCond .eq 7, 3) := by decide +kernel
theorem dX5_valid_18 : decode cX5_valid 18 = .ok (.iconst 0, 1) := by decide +kernel
theorem dX5_valid_19 : decode cX5_valid 19 = .ok (.goto 9, 3) := by decide +kernel
theorem dX5_valid_22 : decode cX5_valid 22 = .ok (.aload_n 0, 1) := by decide +kernel
theorem dX5_valid_23 : decode cX5_valid 23 = .ok (.iload_n 1, 1) := by decide +kernel
theorem dX5_valid_24 : decode cX5_valid 24 = .ok (.iload_n 2, 1) := by decide +kernel
theorem dX5_valid_25 : decode cX5_valid 25 = .ok (.invokevirtual 337, 3) := by decide +kernel
theorem dX5_valid_28 : decode cX5_valid 28 = .ok (.ireturn, 1) := by decide +kernel
theorem dX5_missed_0 : decode cX5_missed 0 = .ok (.aload_n 0, 1) := by decide +kernel
theorem dX5_missed_1 : decode cX5_missed 1 = .ok (.iconst 0, 1) := by decide +kernel
theorem dX5_missed_2 : decode cX5_missed 2 = .ok (.putfield 178, 3) := by decide +kernel
theorem dX5_missed_5 : decode cX5_missed 5 = .ok (.aload_n 0, 1) := by decide +kernel
theorem dX5_missed_6 : decode cX5_missed 6 = .ok (.iload_n 1, 1) := by decide +kernel
theorem dX5_missed_7 : decode cX5_missed 7 = .ok (.iconst 0, 1) := by decide +kernel
theorem dX5_missed_8 : decode cX5_missed 8 = .ok (.iconst 2, 1) := by decide +kernel
theorem dX5_missed_9 : decode cX5_missed 9 = .ok (.invokestatic 317, 3) := by decide +kernel
theorem dX5_missed_12 : decode cX5_missed 12 = .ok (.ifCond .eq 13, 3) := by decide +kernel
theorem dX5_missed_15 : decode cX5_missed 15 = .ok (.iload_n 2, 1) := by decide +kernel
theorem dX5_missed_16 : decode cX5_missed 16 = .ok (.iconst 0, 1) := by decide +kernel
theorem dX5_missed_17 : decode cX5_missed 17 = .ok (.bipush 60, 2) := by decide +kernel
theorem dX5_missed_19 : decode cX5_missed 19 = .ok (.invokestatic 317, 3) := by decide +kernel
theorem dX5_missed_22 : decode cX5_missed 22 = .ok (.ifCond .ne 7, 3) := by decide +kernel
theorem dX5_missed_25 : decode cX5_missed 25 = .ok (.iconst 1, 1) := by decide +kernel
theorem dX5_missed_26 : decode cX5_missed 26 = .ok (.goto 4, 3) := by decide +kernel
theorem dX5_missed_29 : decode cX5_missed 29 = .ok (.iconst 0, 1) := by decide +kernel
theorem dX5_missed_30 : decode cX5_missed 30 = .ok (.iconst 1, 1) := by decide +kernel
theorem dX5_missed_31 : decode cX5_missed 31 = .ok (.invokevirtual 321, 3) := by decide +kernel
theorem dX5_missed_34 : decode cX5_missed 34 = .ok (.ifCond .eq 5, 3) := by decide +kernel
theorem dX5_missed_37 : decode cX5_missed 37 = .ok (.iconst 0, 1) := by decide +kernel
theorem dX5_missed_38 : decode cX5_missed 38 = .ok (.ireturn, 1) := by decide +kernel
theorem dX5_missed_39 : decode cX5_missed 39 = .ok (.iconst 0, 1) := by decide +kernel
theorem dX5_missed_40 : decode cX5_missed 40 = .ok (.istore_n 3, 1) := by decide +kernel
theorem dX5_missed_41 : decode cX5_missed 41 = .ok (.iload_n 3, 1) := by decide +kernel
theorem dX5_missed_42 : decode cX5_missed 42 = .ok (.bipush 7, 2) := by decide +kernel
theorem dX5_missed_44 : decode cX5_missed 44 = .ok (.aload_n 0, 1) := by decide +kernel
theorem dX5_missed_45 : decode cX5_missed 45 = .ok (.getfield 412, 3) := by decide +kernel
theorem dX5_missed_48 : decode cX5_missed 48 = .ok (.imul, 1) := by decide +kernel
theorem dX5_missed_49 : decode cX5_missed 49 = .ok (.if_icmp .ge 21, 3) := by decide +kernel
theorem dX5_missed_52 : decode cX5_missed 52 = .ok (.aload_n 0, 1) := by decide +kernel
theorem dX5_missed_53 : decode cX5_missed 53 = .ok (.getfield 166, 3) := by decide +kernel
theorem dX5_missed_56 : decode cX5_missed 56 = .ok (.iload_n 3, 1) := by decide +kernel
theorem dX5_missed_57 : decode cX5_missed 57 = .ok (.aload_n 0, 1) := by decide +kernel
theorem dX5_missed_58 : decode cX5_missed 58 = .ok (.getfield 148, 3) := by decide +kernel
theorem dX5_missed_61 : decode cX5_missed 61 = .ok (.iload_n 3, 1) := by decide +kernel
theorem dX5_missed_62 : decode cX5_missed 62 = .ok (.iaload, 1) := by decide +kernel
theorem dX5_missed_63 : decode cX5_missed 63 = .ok (.iastore, 1) := by decide +kernel
theorem dX5_missed_64 : decode cX5_missed 64 = .ok (.iinc 3 1, 3) := by decide +kernel
theorem dX5_missed_67 : decode cX5_missed 67 = .ok (.goto (-26), 3) := by decide +kernel
theorem dX5_missed_70 : decode cX5_missed 70 = .ok (.iconst 0, 1) := by decide +kernel
theorem dX5_missed_71 : decode cX5_missed 71 = .ok (.istore_n 3, 1) := by decide +kernel
theorem dX5_missed_72 : decode cX5_missed 72 = .ok (.iload_n 3, 1) := by decide +kernel
theorem dX5_missed_73 : decode cX5_missed 73 = .ok (.aload_n 0, 1) := by decide +kernel
theorem dX5_missed_74 : decode cX5_missed 74 = .ok (.getfield 415, 3) := by decide +kernel
theorem dX5_missed_77 : decode cX5_missed 77 = .ok (.if_icmp .ge 21, 3) := by decide +kernel
theorem dX5_missed_80 : decode cX5_missed 80 = .ok (.aload_n 0, 1) := by decide +kernel
theorem dX5_missed_81 : decode cX5_missed 81 = .ok (.getfield 169, 3) := by decide +kernel
theorem dX5_missed_84 : decode cX5_missed 84 = .ok (.iload_n 3, 1) := by decide +kernel
theorem dX5_missed_85 : decode cX5_missed 85 = .ok (.aload_n 0, 1) := by decide +kernel
theorem dX5_missed_86 : decode cX5_missed 86 = .ok (.getfield 157, 3) := by decide +kernel
theorem dX5_missed_89 : decode cX5_missed 89 = .ok (.iload_n 3, 1) := by decide +kernel
theorem dX5_missed_90 : decode cX5_missed 90 = .ok (.iaload, 1) := by decide +kernel
theorem dX5_missed_91 : decode cX5_missed 91 = .ok (.iastore, 1) := by decide +kernel
theorem dX5_missed_92 : decode cX5_missed 92 = .ok (.iinc 3 1, 3) := by decide +kernel
theorem dX5_missed_95 : decode cX5_missed 95 = .ok (.goto (-23), 3) := by decide +kernel
theorem dX5_missed_98 : decode cX5_missed 98 = .ok (.aload_n 0, 1) := by decide +kernel
theorem dX5_missed_99 : decode cX5_missed 99 = .ok (.getfield 314, 3) := by decide +kernel
theorem dX5_missed_102 : decode cX5_missed 102 = .ok (.istore_n 3, 1) := by decide +kernel
theorem dX5_missed_103 : decode cX5_missed 103 = .ok (.aload_n 0, 1) := by decide +kernel
theorem dX5_missed_104 : decode cX5_missed 104 = .ok (.getfield 415, 3) := by decide +kernel
theorem dX5_missed_107 : decode cX5_missed 107 = .ok (.istore 4, 2) := by decide +kernel
theorem dX5_missed_109 : decode cX5_missed 109 = .ok (.aload_n 0, 1) := by decide +kernel
theorem dX5_missed_110 : decode cX5_missed 110 = .ok (.getfield 406, 3) := by decide +kernel
theorem dX5_missed_113 : decode cX5_missed 113 = .ok (.istore 5, 2) := by decide +kernel
theorem dX5_missed_115 : decode cX5_missed 115 = .ok (.aload_n 0, 1) := by decide +kernel
theorem dX5_missed_116 : decode cX5_missed 116 = .ok (.getfield 456, 3) := by decide +kernel
theorem dX5_missed_119 : decode cX5_missed 119 = .ok (.istore 6, 2) := by decide +kernel
theorem dX5_missed_121 : decode cX5_missed 121 = .ok (.aload_n 0, 1) := by decide +kernel
theorem dX5_missed_122 : decode cX5_missed 122 = .ok (.getfield 465, 3) := by decide +kernel
theorem dX5_missed_125 : decode cX5_missed 125 = .ok (.istore 7, 2) := by decide +kernel
theorem dX5_missed_127 : decode cX5_missed 127 = .ok (.aload_n 0, 1) := by decide +kernel
theorem dX5_missed_128 : decode cX5_missed 128 = .ok (.getfield 484, 3) := by decide +kernel
theorem dX5_missed_131 : decode cX5_missed 131 = .ok (.istore 8, 2) := by decide +kernel
theorem dX5_missed_133 : decode cX5_missed 133 = .ok (.aload_n 0, 1) := by decide +kernel
theorem dX5_missed_134 : decode cX5_missed 134 = .ok (.getfield 481, 3) := by decide +kernel
theorem dX5_missed_137 : decode cX5_missed 137 = .ok (.istore 9, 2) := by decide +kernel
theorem dX5_missed_139 : decode cX5_missed 139 = .ok (.iconst 0, 1) := by decide +kernel
theorem dX5_missed_140 : decode cX5_missed 140 = .ok (.istore 10, 2) := by decide +kernel
theorem dX5_missed_142 : decode cX5_missed 142 = .ok (.iload 10, 2) := by decide +kernel
theorem dX5_missed_144 : decode cX5_missed 144 = .ok (.iload_n 2, 1) := by decide +kernel
theorem dX5_missed_145 : decode cX5_missed 145 = .ok (.if_icmp .ge 14, 3) := by decide +kernel
theorem dX5_missed_148 : decode cX5_missed 148 = .ok (.aload_n 0, 1) := by decide +kernel
theorem dX5_missed_149 : decode cX5_missed 149 = .ok (.iload_n 1, 1) := by decide +kernel
theorem dX5_missed_150 : decode cX5_missed 150 = .ok (.invokevirtual 490, 3) := by decide +kernel
theorem dX5_missed_153 : decode cX5_missed 153 = .ok (.iinc 10 1, 3) := by decide +kernel
theorem dX5_missed_156 : decode cX5_missed 156 = .ok (.goto (-14), 3) := by decide +kernel
theorem dX5_missed_159 : decode cX5_missed 159 = .ok (.iconst 0, 1) := by decide +kernel
theorem dX5_missed_160 : decode cX5_missed 160 = .ok (.istore 10, 2) := by decide +kernel
theorem dX5_missed_162 : decode cX5_missed 162 = .ok (.iconst 0, 1) := by decide +kernel
theorem dX5_missed_163 : decode cX5_missed 163 = .ok (.istore 11, 2) := by decide +kernel
theorem dX5_missed_165 : decode cX5_missed 165 = .ok (.iload 11, 2) := by decide +kernel
theorem dX5_missed_167 : decode cX5_missed 167 = .ok (.aload_n 0, 1) := by decide +kernel
theorem dX5_missed_168 : decode cX5_missed 168 = .ok (.getfield 412, 3) := by decide +kernel
theorem dX5_missed_171 : decode cX5_missed 171 = .ok (.if_icmp .ge 80, 3) := by decide +kernel
theorem dX5_missed_174 : decode cX5_missed 174 = .ok (.aload_n 0, 1) := by decide +kernel
theorem dX5_missed_175 : decode cX5_missed 175 = .ok (.getfield 166, 3) := by decide +kernel
theorem dX5_missed_178 : decode cX5_missed 178 = .ok (.bipush 7, 2) := by decide +kernel
theorem dX5_missed_180 : decode cX5_missed 180 = .ok (.iload 11, 2) := by decide +kernel
theorem dX5_missed_182 : decode cX5_missed 182 = .ok (.imul, 1) := by decide +kernel
theorem dX5_missed_183 : decode cX5_missed 183 = .ok (.iconst 0, 1) := by decide +kernel
theorem dX5_missed_184 : decode cX5_missed 184 = .ok (.iadd, 1) := by decide +kernel
theorem dX5_missed_185 : decode cX5_missed 185 = .ok (.iaload, 1) := by decide +kernel
theorem dX5_missed_186 : decode cX5_missed 186 = .ok (.bipush 6, 2) := by decide +kernel
theorem dX5_missed_188 : decode cX5_missed 188 = .ok (.if_icmp .gt 57, 3) := by decide +kernel
theorem dX5_missed_191 : decode cX5_missed 191 = .ok (.aload_n 0, 1) := by decide +kernel
theorem dX5_missed_192 : decode cX5_missed 192 = .ok (.getfield 121, 3) := by decide +kernel
theorem dX5_missed_195 : decode cX5_missed 195 = .ok (.iload 11, 2) := by decide +kernel
theorem dX5_missed_197 : decode cX5_missed 197 = .ok (.iaload, 1) := by decide +kernel
theorem dX5_missed_198 : decode cX5_missed 198 = .ok (.aload_n 0, 1) := by decide +kernel
theorem dX5_missed_199 : decode cX5_missed 199 = .ok (.getfield 314, 3) := by decide +kernel
theorem dX5_missed_202 : decode cX5_missed 202 = .ok (.if_icmp .le 6, 3) := by decide +kernel
theorem dX5_missed_205 : decode cX5_missed 205 = .ok (.goto 40, 3) := by decide +kernel
theorem dX5_missed_208 : decode cX5_missed 208 = .ok (.iload 10, 2) := by decide +kernel
theorem dX5_missed_210 : decode cX5_missed 210 = .ok (.aload_n 0, 1) := by decide +kernel
theorem dX5_missed_211 : decode cX5_missed 211 = .ok (.iload 11, 2) := by decide +kernel
theorem dX5_missed_213 : decode cX5_missed 213 = .ok (.iconst 3, 1) := by decide +kernel
theorem dX5_missed_214 : decode cX5_missed 214 = .ok (.invokevirtual 434, 3) := by decide +kernel
theorem dX5_missed_217 : decode cX5_missed 217 = .ok (.ifCond .lt 24, 3) := by decide +kernel
theorem dX5_missed_220 : decode cX5_missed 220 = .ok (.aload_n 0, 1) := by decide +kernel
theorem dX5_missed_221 : decode cX5_missed 221 = .ok (.iload 11, 2) := by decide +kernel
theorem dX5_missed_223 : decode cX5_missed 223 = .ok (.iconst 3, 1) := by decide +kernel
theorem dX5_missed_224 : decode cX5_missed 224 = .ok (.invokevirtual 434, 3) := by decide +kernel
theorem dX5_missed_227 : decode cX5_missed 227 = .ok (.aload_n 0, 1) := by decide +kernel
theorem dX5_missed_228 : decode cX5_missed 228 = .ok (.getfield 121, 3) := by decide +kernel
theorem dX5_missed_231 : decode cX5_missed 231 = .ok (.iload 11, 2) := by decide +kernel
theorem dX5_missed_233 : decode cX5_missed 233 = .ok (.iaload, 1) := by decide +kernel
theorem dX5_missed_234 : decode cX5_missed 234 = .ok (.if_icmp .gt 7, 3) := by decide +kernel
theorem dX5_missed_237 : decode cX5_missed 237 = .ok (.iconst 0, 1) := by decide +kernel
theorem dX5_missed_238 : decode cX5_missed 238 = .ok (.goto 4, 3) := by decide +kernel
theorem dX5_missed_241 : decode cX5_missed 241 = .ok (.iconst 1, 1) := by decide +kernel
theorem dX5_missed_242 : decode cX5_missed 242 = .ok (.iadd, 1) := by decide +kernel
theorem dX5_missed_243 : decode cX5_missed 243 = .ok (.istore 10, 2) := by decide +kernel
theorem dX5_missed_245 : decode cX5_missed 245 = .ok (.iinc 11 1, 3) := by decide +kernel
theorem dX5_missed_248 : decode cX5_missed 248 = .ok (.goto (-83), 3) := by decide +kernel
theorem dX5_missed_251 : decode cX5_missed 251 = .ok (.iconst 0, 1) := by decide +kernel
theorem dX5_missed_252 : decode cX5_missed 252 = .ok (.istore 11, 2) := by decide +kernel
theorem dX5_missed_254 : decode cX5_missed 254 = .ok (.iload 11, 2) := by decide +kernel
theorem dX5_missed_256 : decode cX5_missed 256 = .ok (.bipush 7, 2) := by decide +kernel
theorem dX5_missed_258 : decode cX5_missed 258 = .ok (.aload_n 0, 1) := by decide +kernel
theorem dX5_missed_259 : decode cX5_missed 259 = .ok (.getfield 412, 3) := by decide +kernel
theorem dX5_missed_262 : decode cX5_missed 262 = .ok (.imul, 1) := by decide +kernel
theorem dX5_missed_263 : decode cX5_missed 263 = .ok (.if_icmp .ge 23, 3) := by decide +kernel
theorem dX5_missed_266 : decode cX5_missed 266 = .ok (.aload_n 0, 1) := by decide +kernel
theorem dX5_missed_267 : decode cX5_missed 267 = .ok (.getfield 148, 3) := by decide +kernel
theorem dX5_missed_270 : decode cX5_missed 270 = .ok (.iload 11, 2) := by decide +kernel
theorem dX5_missed_272 : decode cX5_missed 272 = .ok (.aload_n 0, 1) := by decide +kernel
theorem dX5_missed_273 : decode cX5_missed 273 = .ok (.getfield 166, 3) := by decide +kernel
theorem dX5_missed_276 : decode cX5_missed 276 = .ok (.iload 11, 2) := by decide +kernel
theorem dX5_missed_278 : decode cX5_missed 278 = .ok (.iaload, 1) := by decide +kernel
theorem dX5_missed_279 : decode cX5_missed 279 = .ok (.iastore, 1) := by decide +kernel
theorem dX5_missed_280 : decode cX5_missed 280 = .ok (.iinc 11 1, 3) := by decide +kernel
theorem dX5_missed_283 : decode cX5_missed 283 = .ok (.goto (-29), 3) := by decide +kernel
theorem dX5_missed_286 : decode cX5_missed 286 = .ok (.iconst 0, 1) := by decide +kernel
theorem dX5_missed_287 : decode cX5_missed 287 = .ok (.istore 11, 2) := by decide +kernel
theorem dX5_missed_289 : decode cX5_missed 289 = .ok (.iload 11, 2) := by decide +kernel
theorem dX5_missed_291 : decode cX5_missed 291 = .ok (.iload 4, 2) := by decide +kernel
theorem dX5_missed_293 : decode cX5_missed 293 = .ok (.if_icmp .ge 23, 3) := by decide +kernel
theorem dX5_missed_296 : decode cX5_missed 296 = .ok (.aload_n 0, 1) := by decide +kernel
theorem dX5_missed_297 : decode cX5_missed 297 = .ok (.getfield 157, 3) := by decide +kernel
theorem dX5_missed_300 : decode cX5_missed 300 = .ok (.iload 11, 2) := by decide +kernel
theorem dX5_missed_302 : decode cX5_missed 302 = .ok (.aload_n 0, 1) := by decide +kernel
theorem dX5_missed_303 : decode cX5_missed 303 = .ok (.getfield 169, 3) := by decide +kernel
theorem dX5_missed_306 : decode cX5_missed 306 = .ok (.iload 11, 2) := by decide +kernel
theorem dX5_missed_308 : decode cX5_missed 308 = .ok (.iaload, 1) := by decide +kernel
theorem dX5_missed_309 : decode cX5_missed 309 = .ok (.iastore, 1) := by decide +kernel
theorem dX5_missed_310 : decode cX5_missed 310 = .ok (.iinc 11 1, 3) := by decide +kernel
theorem dX5_missed_313 : decode cX5_missed 313 = .ok (.goto (-24), 3) := by decide +kernel
theorem dX5_missed_316 : decode cX5_missed 316 = .ok (.aload_n 0, 1) := by decide +kernel
theorem dX5_missed_317 : decode cX5_missed 317 = .ok (.iload_n 3, 1) := by decide +kernel
theorem dX5_missed_318 : decode cX5_missed 318 = .ok (.putfield 314, 3) := by decide +kernel
theorem dX5_missed_321 : decode cX5_missed 321 = .ok (.aload_n 0, 1) := by decide +kernel
theorem dX5_missed_322 : decode cX5_missed 322 = .ok (.iload 4, 2) := by decide +kernel
theorem dX5_missed_324 : decode cX5_missed 324 = .ok (.putfield 415, 3) := by decide +kernel
theorem dX5_missed_327 : decode cX5_missed 327 = .ok (.aload_n 0, 1) := by decide +kernel
theorem dX5_missed_328 : decode cX5_missed 328 = .ok (.iload 5, 2) := by decide +kernel
theorem dX5_missed_330 : decode cX5_missed 330 = .ok (.putfield 406, 3) := by decide +kernel
theorem dX5_missed_333 : decode cX5_missed 333 = .ok (.aload_n 0, 1) := by decide +kernel
theorem dX5_missed_334 : decode cX5_missed 334 = .ok (.iload 6, 2) := by decide +kernel
theorem dX5_missed_336 : decode cX5_missed 336 = .ok (.putfield 456, 3) := by decide +kernel
theorem dX5_missed_339 : decode cX5_missed 339 = .ok (.aload_n 0, 1) := by decide +kernel
theorem dX5_missed_340 : decode cX5_missed 340 = .ok (.iload 7, 2) := by decide +kernel
theorem dX5_missed_342 : decode cX5_missed 342 = .ok (.putfield 465, 3) := by decide +kernel
theorem dX5_missed_345 : decode cX5_missed 345 = .ok (.aload_n 0, 1) := by decide +kernel
theorem dX5_missed_346 : decode cX5_missed 346 = .ok (.iload 8, 2) := by decide +kernel
theorem dX5_missed_348 : decode cX5_missed 348 = .ok (.putfield 484, 3) := by decide +kernel
theorem dX5_missed_351 : decode cX5_missed 351 = .ok (.aload_n 0, 1) := by decide +kernel
theorem dX5_missed_352 : decode cX5_missed 352 = .ok (.iload 9, 2) := by decide +kernel
theorem dX5_missed_354 : decode cX5_missed 354 = .ok (.putfield 481, 3) := by decide +kernel
theorem dX5_missed_357 : decode cX5_missed 357 = .ok (.iload 10, 2) := by decide +kernel
theorem dX5_missed_359 : decode cX5_missed 359 = .ok (.ireturn, 1) := by decide +kernel
theorem dX5_waits_0 : decode cX5_waits 0 = .ok (.aload_n 0, 1) := by decide +kernel
theorem dX5_waits_1 : decode cX5_waits 1 = .ok (.iconst 0, 1) := by decide +kernel
theorem dX5_waits_2 : decode cX5_waits 2 = .ok (.putfield 178, 3) := by decide +kernel
theorem dX5_waits_5 : decode cX5_waits 5 = .ok (.aload_n 0, 1) := by decide +kernel
theorem dX5_waits_6 : decode cX5_waits 6 = .ok (.iload_n 1, 1) := by decide +kernel
theorem dX5_waits_7 : decode cX5_waits 7 = .ok (.iconst 0, 1) := by decide +kernel
theorem dX5_waits_8 : decode cX5_waits 8 = .ok (.iconst 3, 1) := by decide +kernel
theorem dX5_waits_9 : decode cX5_waits 9 = .ok (.invokestatic 317, 3) := by decide +kernel
theorem dX5_waits_12 : decode cX5_waits 12 = .ok (.ifCond .ne 7, 3) := by decide +kernel
theorem dX5_waits_15 : decode cX5_waits 15 = .ok (.iconst 1, 1) := by decide +kernel
theorem dX5_waits_16 : decode cX5_waits 16 = .ok (.goto 4, 3) := by decide +kernel
theorem dX5_waits_19 : decode cX5_waits 19 = .ok (.iconst 0, 1) := by decide +kernel
theorem dX5_waits_20 : decode cX5_waits 20 = .ok (.iconst 1, 1) := by decide +kernel
theorem dX5_waits_21 : decode cX5_waits 21 = .ok (.invokevirtual 321, 3) := by decide +kernel
theorem dX5_waits_24 : decode cX5_waits 24 = .ok (.ifCond .eq 5, 3) := by decide +kernel
theorem dX5_waits_27 : decode cX5_waits 27 = .ok (.iconst 0, 1) := by decide +kernel
theorem dX5_waits_28 : decode cX5_waits 28 = .ok (.ireturn, 1) := by decide +kernel
theorem dX5_waits_29 : decode cX5_waits 29 = .ok (.iconst 0, 1) := by decide +kernel
theorem dX5_waits_30 : decode cX5_waits 30 = .ok (.istore_n 3, 1) := by decide +kernel
theorem dX5_waits_31 : decode cX5_waits 31 = .ok (.iconst 0, 1) := by decide +kernel
theorem dX5_waits_32 : decode cX5_waits 32 = .ok (.istore 4, 2) := by decide +kernel
theorem dX5_waits_34 : decode cX5_waits 34 = .ok (.iload 4, 2) := by decide +kernel
theorem dX5_waits_36 : decode cX5_waits 36 = .ok (.aload_n 0, 1) := by decide +kernel
theorem dX5_waits_37 : decode cX5_waits 37 = .ok (.getfield 412, 3) := by decide +kernel
theorem dX5_waits_40 : decode cX5_waits 40 = .ok (.if_icmp .ge 101, 3) := by decide +kernel
theorem dX5_waits_43 : decode cX5_waits 43 = .ok (.aload_n 0, 1) := by decide +kernel
theorem dX5_waits_44 : decode cX5_waits 44 = .ok (.getfield 115, 3) := by decide +kernel
theorem dX5_waits_47 : decode cX5_waits 47 = .ok (.iload 4, 2) := by decide +kernel
theorem dX5_waits_49 : decode cX5_waits 49 = .ok (.iaload, 1) := by decide +kernel
theorem dX5_waits_50 : decode cX5_waits 50 = .ok (.iload_n 1, 1) := by decide +kernel
theorem dX5_waits_51 : decode cX5_waits 51 = .ok (.if_icmp .ne 84, 3) := by decide +kernel
theorem dX5_waits_54 : decode cX5_waits 54 = .ok (.aload_n 0, 1) := by decide +kernel
theorem dX5_waits_55 : decode cX5_waits 55 = .ok (.iload 4, 2) := by decide +kernel
theorem dX5_waits_57 : decode cX5_waits 57 = .ok (.iconst 0, 1) := by decide +kernel
theorem dX5_waits_58 : decode cX5_waits 58 = .ok (.invokevirtual 434, 3) := by decide +kernel
theorem dX5_waits_61 : decode cX5_waits 61 = .ok (.bipush 7, 2) := by decide +kernel
theorem dX5_waits_63 : decode cX5_waits 63 = .ok (.if_icmp .eq 6, 3) := by decide +kernel
theorem dX5_waits_66 : decode cX5_waits 66 = .ok (.goto 69, 3) := by decide +kernel
theorem dX5_waits_69 : decode cX5_waits 69 = .ok (.iload_n 3, 1) := by decide +kernel
theorem dX5_waits_70 : decode cX5_waits 70 = .ok (.istore 5, 2) := by decide +kernel
theorem dX5_waits_72 : decode cX5_waits 72 = .ok (.iload 5, 2) := by decide +kernel
theorem dX5_waits_74 : decode cX5_waits 74 = .ok (.ifCond .le 49, 3) := by decide +kernel
theorem dX5_waits_77 : decode cX5_waits 77 = .ok (.aload_n 0, 1) := by decide +kernel
theorem dX5_waits_78 : decode cX5_waits 78 = .ok (.aload_n 0, 1) := by decide +kernel
theorem dX5_waits_79 : decode cX5_waits 79 = .ok (.getfield 175, 3) := by decide +kernel
theorem dX5_waits_82 : decode cX5_waits 82 = .ok (.iload 5, 2) := by decide +kernel
theorem dX5_waits_84 : decode cX5_waits 84 = .ok (.iconst 1, 1) := by decide +kernel
theorem dX5_waits_85 : decode cX5_waits 85 = .ok (.isub, 1) := by decide +kernel
theorem dX5_waits_86 : decode cX5_waits 86 = .ok (.iaload, 1) := by decide +kernel
theorem dX5_waits_87 : decode cX5_waits 87 = .ok (.iconst 3, 1) := by decide +kernel
theorem dX5_waits_88 : decode cX5_waits 88 = .ok (.invokevirtual 434, 3) := by decide +kernel
theorem dX5_waits_91 : decode cX5_waits 91 = .ok (.aload_n 0, 1) := by decide +kernel
theorem dX5_waits_92 : decode cX5_waits 92 = .ok (.iload 4, 2) := by decide +kernel
theorem dX5_waits_94 : decode cX5_waits 94 = .ok (.iconst 3, 1) := by decide +kernel
theorem dX5_waits_95 : decode cX5_waits 95 = .ok (.invokevirtual 434, 3) := by decide +kernel
theorem dX5_waits_98 : decode cX5_waits 98 = .ok (.if_icmp .le 25, 3) := by decide +kernel
theorem dX5_waits_101 : decode cX5_waits 101 = .ok (.aload_n 0, 1) := by decide +kernel
theorem dX5_waits_102 : decode cX5_waits 102 = .ok (.getfield 175, 3) := by decide +kernel
theorem dX5_waits_105 : decode cX5_waits 105 = .ok (.iload 5, 2) := by decide +kernel
theorem dX5_waits_107 : decode cX5_waits 107 = .ok (.aload_n 0, 1) := by decide +kernel
theorem dX5_waits_108 : decode cX5_waits 108 = .ok (.getfield 175, 3) := by decide +kernel
theorem dX5_waits_111 : decode cX5_waits 111 = .ok (.iload 5, 2) := by decide +kernel
theorem dX5_waits_113 : decode cX5_waits 113 = .ok (.iconst 1, 1) := by decide +kernel
theorem dX5_waits_114 : decode cX5_waits 114 = .ok (.isub, 1) := by decide +kernel
theorem dX5_waits_115 : decode cX5_waits 115 = .ok (.iaload, 1) := by decide +kernel
theorem dX5_waits_116 : decode cX5_waits 116 = .ok (.iastore, 1) := by decide +kernel
theorem dX5_waits_117 : decode cX5_waits 117 = .ok (.iinc 5 (-1), 3) := by decide +kernel
theorem dX5_waits_120 : decode cX5_waits 120 = .ok (.goto (-48), 3) := by decide +kernel
theorem dX5_waits_123 : decode cX5_waits 123 = .ok (.aload_n 0, 1) := by decide +kernel
theorem dX5_waits_124 : decode cX5_waits 124 = .ok (.getfield 175, 3) := by decide +kernel
theorem dX5_waits_127 : decode cX5_waits 127 = .ok (.iload 5, 2) := by decide +kernel
theorem dX5_waits_129 : decode cX5_waits 129 = .ok (.iload 4, 2) := by decide +kernel
theorem dX5_waits_131 : decode cX5_waits 131 = .ok (.iastore, 1) := by decide +kernel
theorem dX5_waits_132 : decode cX5_waits 132 = .ok (.iinc 3 1, 3) := by decide +kernel
theorem dX5_waits_135 : decode cX5_waits 135 = .ok (.iinc 4 1, 3) := by decide +kernel
theorem dX5_waits_138 : decode cX5_waits 138 = .ok (.goto (-104), 3) := by decide +kernel
theorem dX5_waits_141 : decode cX5_waits 141 = .ok (.bipush 20, 2) := by decide +kernel
theorem dX5_waits_143 : decode cX5_waits 143 = .ok (.iload_n 3, 1) := by decide +kernel
theorem dX5_waits_144 : decode cX5_waits 144 = .ok (.invokestatic 369, 3) := by decide +kernel
theorem dX5_waits_147 : decode cX5_waits 147 = .ok (.istore 4, 2) := by decide +kernel
theorem dX5_waits_149 : decode cX5_waits 149 = .ok (.iload 4, 2) := by decide +kernel
theorem dX5_waits_151 : decode cX5_waits 151 = .ok (.ifCond .ne 5, 3) := by decide +kernel
theorem dX5_waits_154 : decode cX5_waits 154 = .ok (.iconst (-1), 1) := by decide +kernel
theorem dX5_waits_155 : decode cX5_waits 155 = .ok (.ireturn, 1) := by decide +kernel
theorem dX5_waits_156 : decode cX5_waits 156 = .ok (.iconst 0, 1) := by decide +kernel
theorem dX5_waits_157 : decode cX5_waits 157 = .ok (.istore 5, 2) := by decide +kernel
theorem dX5_waits_159 : decode cX5_waits 159 = .ok (.iload 5, 2) := by decide +kernel
theorem dX5_waits_161 : decode cX5_waits 161 = .ok (.iload 4, 2) := by decide +kernel
theorem dX5_waits_163 : decode cX5_waits 163 = .ok (.if_icmp .ge 94, 3) := by decide +kernel
theorem dX5_waits_166 : decode cX5_waits 166 = .ok (.aload_n 0, 1) := by decide +kernel
theorem dX5_waits_167 : decode cX5_waits 167 = .ok (.getfield 175, 3) := by decide +kernel
theorem dX5_waits_170 : decode cX5_waits 170 = .ok (.iload_n 3, 1) := by decide +kernel
theorem dX5_waits_171 : decode cX5_waits 171 = .ok (.iload 4, 2) := by decide +kernel
theorem dX5_waits_173 : decode cX5_waits 173 = .ok (.isub, 1) := by decide +kernel
theorem dX5_waits_174 : decode cX5_waits 174 = .ok (.iload 5, 2) := by decide +kernel
theorem dX5_waits_176 : decode cX5_waits 176 = .ok (.iadd, 1) := by decide +kernel
theorem dX5_waits_177 : decode cX5_waits 177 = .ok (.iaload, 1) := by decide +kernel
theorem dX5_waits_178 : decode cX5_waits 178 = .ok (.istore 6, 2) := by decide +kernel
theorem dX5_waits_180 : decode cX5_waits 180 = .ok (.aload_n 0, 1) := by decide +kernel
theorem dX5_waits_181 : decode cX5_waits 181 = .ok (.iload 6, 2) := by decide +kernel
theorem dX5_waits_183 : decode cX5_waits 183 = .ok (.iconst 3, 1) := by decide +kernel
theorem dX5_waits_184 : decode cX5_waits 184 = .ok (.invokevirtual 434, 3) := by decide +kernel
theorem dX5_waits_187 : decode cX5_waits 187 = .ok (.aload_n 0, 1) := by decide +kernel
theorem dX5_waits_188 : decode cX5_waits 188 = .ok (.getfield 118, 3) := by decide +kernel
theorem dX5_waits_191 : decode cX5_waits 191 = .ok (.iload 6, 2) := by decide +kernel
theorem dX5_waits_193 : decode cX5_waits 193 = .ok (.iaload, 1) := by decide +kernel
theorem dX5_waits_194 : decode cX5_waits 194 = .ok (.isub, 1) := by decide +kernel
theorem dX5_waits_195 : decode cX5_waits 195 = .ok (.istore 7, 2) := by decide +kernel
theorem dX5_waits_197 : decode cX5_waits 197 = .ok (.iload 5, 2) := by decide +kernel
theorem dX5_waits_199 : decode cX5_waits 199 = .ok (.istore 8, 2) := by decide +kernel
theorem dX5_waits_201 : decode cX5_waits 201 = .ok (.iload 8, 2) := by decide +kernel
theorem dX5_waits_203 : decode cX5_waits 203 = .ok (.ifCond .le 39, 3) := by decide +kernel
theorem dX5_waits_206 : decode cX5_waits 206 = .ok (.aload_n 0, 1) := by decide +kernel
theorem dX5_waits_207 : decode cX5_waits 207 = .ok (.getfield 172, 3) := by decide +kernel
theorem dX5_waits_210 : decode cX5_waits 210 = .ok (.iload 8, 2) := by decide +kernel
theorem dX5_waits_212 : decode cX5_waits 212 = .ok (.iconst 1, 1) := by decide +kernel
theorem dX5_waits_213 : decode cX5_waits 213 = .ok (.isub, 1) := by decide +kernel
theorem dX5_waits_214 : decode cX5_waits 214 = .ok (.iaload, 1) := by decide +kernel
theorem dX5_waits_215 : decode cX5_waits 215 = .ok (.iload 7, 2) := by decide +kernel
theorem dX5_waits_217 : decode cX5_waits 217 = .ok (.if_icmp .le 25, 3) := by decide +kernel
theorem dX5_waits_220 : decode cX5_waits 220 = .ok (.aload_n 0, 1) := by decide +kernel
theorem dX5_waits_221 : decode cX5_waits 221 = .ok (.getfield 172, 3) := by decide +kernel
theorem dX5_waits_224 : decode cX5_waits 224 = .ok (.iload 8, 2) := by decide +kernel
theorem dX5_waits_226 : decode cX5_waits 226 = .ok (.aload_n 0, 1) := by decide +kernel
theorem dX5_waits_227 : decode cX5_waits 227 = .ok (.getfield 172, 3) := by decide +kernel
theorem dX5_waits_230 : decode cX5_waits 230 = .ok (.iload 8, 2) := by decide +kernel
theorem dX5_waits_232 : decode cX5_waits 232 = .ok (.iconst 1, 1) := by decide +kernel
theorem dX5_waits_233 : decode cX5_waits 233 = .ok (.isub, 1) := by decide +kernel
theorem dX5_waits_234 : decode cX5_waits 234 = .ok (.iaload, 1) := by decide +kernel
theorem dX5_waits_235 : decode cX5_waits 235 = .ok (.iastore, 1) := by decide +kernel
theorem dX5_waits_236 : decode cX5_waits 236 = .ok (.iinc 8 (-1), 3) := by decide +kernel
theorem dX5_waits_239 : decode cX5_waits 239 = .ok (.goto (-38), 3) := by decide +kernel
theorem dX5_waits_242 : decode cX5_waits 242 = .ok (.aload_n 0, 1) := by decide +kernel
theorem dX5_waits_243 : decode cX5_waits 243 = .ok (.getfield 172, 3) := by decide +kernel
theorem dX5_waits_246 : decode cX5_waits 246 = .ok (.iload 8, 2) := by decide +kernel
theorem dX5_waits_248 : decode cX5_waits 248 = .ok (.iload 7, 2) := by decide +kernel
theorem dX5_waits_250 : decode cX5_waits 250 = .ok (.iastore, 1) := by decide +kernel
theorem dX5_waits_251 : decode cX5_waits 251 = .ok (.iinc 5 1, 3) := by decide +kernel
theorem dX5_waits_254 : decode cX5_waits 254 = .ok (.goto (-95), 3) := by decide +kernel
theorem dX5_waits_257 : decode cX5_waits 257 = .ok (.iload_n 2, 1) := by decide +kernel
theorem dX5_waits_258 : decode cX5_waits 258 = .ok (.ifCond .eq 21, 3) := by decide +kernel
theorem dX5_waits_261 : decode cX5_waits 261 = .ok (.aload_n 0, 1) := by decide +kernel
theorem dX5_waits_262 : decode cX5_waits 262 = .ok (.getfield 172, 3) := by decide +kernel
theorem dX5_waits_265 : decode cX5_waits 265 = .ok (.iload 4, 2) := by decide +kernel
theorem dX5_waits_267 : decode cX5_waits 267 = .ok (.iconst 1, 1) := by decide +kernel
theorem dX5_waits_268 : decode cX5_waits 268 = .ok (.isub, 1) := by decide +kernel
theorem dX5_waits_269 : decode cX5_waits 269 = .ok (.iload 4, 2) := by decide +kernel
theorem dX5_waits_271 : decode cX5_waits 271 = .ok (.bipush 10, 2) := by decide +kernel
theorem dX5_waits_273 : decode cX5_waits 273 = .ok (.idiv, 1) := by decide +kernel
theorem dX5_waits_274 : decode cX5_waits 274 = .ok (.isub, 1) := by decide +kernel
theorem dX5_waits_275 : decode cX5_waits 275 = .ok (.iaload, 1) := by decide +kernel
theorem dX5_waits_276 : decode cX5_waits 276 = .ok (.goto 13, 3) := by decide +kernel
theorem dX5_waits_279 : decode cX5_waits 279 = .ok (.aload_n 0, 1) := by decide +kernel
theorem dX5_waits_280 : decode cX5_waits 280 = .ok (.getfield 172, 3) := by decide +kernel
theorem dX5_waits_283 : decode cX5_waits 283 = .ok (.iload 4, 2) := by decide +kernel
theorem dX5_waits_285 : decode cX5_waits 285 = .ok (.bipush 10, 2) := by decide +kernel
theorem dX5_waits_287 : decode cX5_waits 287 = .ok (.idiv, 1) := by decide +kernel
theorem dX5_waits_288 : decode cX5_waits 288 = .ok (.iaload, 1) := by decide +kernel
theorem dX5_waits_289 : decode cX5_waits 289 = .ok (.ireturn, 1) := by decide +kernel
theorem dX5_ends_0 : decode cX5_ends 0 = .ok (.aload_n 0, 1) := by decide +kernel
theorem dX5_ends_1 : decode cX5_ends 1 = .ok (.iconst 0, 1) := by decide +kernel
theorem dX5_ends_2 : decode cX5_ends 2 = .ok (.putfield 178, 3) := by decide +kernel
theorem dX5_ends_5 : decode cX5_ends 5 = .ok (.iconst 0, 1) := by decide +kernel
theorem dX5_ends_6 : decode cX5_ends 6 = .ok (.istore_n 3, 1) := by decide +kernel
theorem dX5_ends_7 : decode cX5_ends 7 = .ok (.iconst 0, 1) := by decide +kernel
theorem dX5_ends_8 : decode cX5_ends 8 = .ok (.istore 4, 2) := by decide +kernel
theorem dX5_ends_10 : decode cX5_ends 10 = .ok (.iload 4, 2) := by decide +kernel
theorem dX5_ends_12 : decode cX5_ends 12 = .ok (.aload_n 0, 1) := by decide +kernel
theorem dX5_ends_13 : decode cX5_ends 13 = .ok (.getfield 415, 3) := by decide +kernel
theorem dX5_ends_16 : decode cX5_ends 16 = .ok (.if_icmp .ge 32, 3) := by decide +kernel
theorem dX5_ends_19 : decode cX5_ends 19 = .ok (.iload_n 3, 1) := by decide +kernel
theorem dX5_ends_20 : decode cX5_ends 20 = .ok (.aload_n 0, 1) := by decide +kernel
theorem dX5_ends_21 : decode cX5_ends 21 = .ok (.getfield 157, 3) := by decide +kernel
theorem dX5_ends_24 : decode cX5_ends 24 = .ok (.iload 4, 2) := by decide +kernel
theorem dX5_ends_26 : decode cX5_ends 26 = .ok (.iaload, 1) := by decide +kernel
theorem dX5_ends_27 : decode cX5_ends 27 = .ok (.iload_n 1, 1) := by decide +kernel
theorem dX5_ends_28 : decode cX5_ends 28 = .ok (.iload_n 2, 1) := by decide +kernel
theorem dX5_ends_29 : decode cX5_ends 29 = .ok (.invokestatic 317, 3) := by decide +kernel
theorem dX5_ends_32 : decode cX5_ends 32 = .ok (.ifCond .eq 7, 3) := by decide +kernel
theorem dX5_ends_35 : decode cX5_ends 35 = .ok (.iconst 1, 1) := by decide +kernel
theorem dX5_ends_36 : decode cX5_ends 36 = .ok (.goto 4, 3) := by decide +kernel
theorem dX5_ends_39 : decode cX5_ends 39 = .ok (.iconst 0, 1) := by decide +kernel
theorem dX5_ends_40 : decode cX5_ends 40 = .ok (.iadd, 1) := by decide +kernel
theorem dX5_ends_41 : decode cX5_ends 41 = .ok (.istore_n 3, 1) := by decide +kernel
theorem dX5_ends_42 : decode cX5_ends 42 = .ok (.iinc 4 1, 3) := by decide +kernel
theorem dX5_ends_45 : decode cX5_ends 45 = .ok (.goto (-35), 3) := by decide +kernel
theorem dX5_ends_48 : decode cX5_ends 48 = .ok (.iload_n 3, 1) := by decide +kernel
theorem dX5_ends_49 : decode cX5_ends 49 = .ok (.ireturn, 1) := by decide +kernel
theorem dX5_count_0 : decode cX5_count 0 = .ok (.aload_n 0, 1) := by decide +kernel
theorem dX5_count_1 : decode cX5_count 1 = .ok (.iconst 0, 1) := by decide +kernel
theorem dX5_count_2 : decode cX5_count 2 = .ok (.putfield 178, 3) := by decide +kernel
theorem dX5_count_5 : decode cX5_count 5 = .ok (.iload_n 1, 1) := by decide +kernel
theorem dX5_count_6 : decode cX5_count 6 = .ok (.tableswitch 216 0 17 #[86, 91, 96, 101, 106, 113, 122, 129, 134, 139, 144, 149, 154, 159, 164, 169, 198, 207], 86) := by decide +kernel
theorem dX5_count_92 : decode cX5_count 92 = .ok (.aload_n 0, 1) := by decide +kernel
theorem dX5_count_93 : decode cX5_count 93 = .ok (.getfield 314, 3) := by decide +kernel
theorem dX5_count_96 : decode cX5_count 96 = .ok (.ireturn, 1) := by decide +kernel
theorem dX5_count_97 : decode cX5_count 97 = .ok (.aload_n 0, 1) := by decide +kernel
theorem dX5_count_98 : decode cX5_count 98 = .ok (.getfield 372, 3) := by decide +kernel
theorem dX5_count_101 : decode cX5_count 101 = .ok (.ireturn, 1) := by decide +kernel
theorem dX5_count_102 : decode cX5_count 102 = .ok (.aload_n 0, 1) := by decide +kernel
theorem dX5_count_103 : decode cX5_count 103 = .ok (.getfield 328, 3) := by decide +kernel
theorem dX5_count_106 : decode cX5_count 106 = .ok (.ireturn, 1) := by decide +kernel
theorem dX5_count_107 : decode cX5_count 107 = .ok (.aload_n 0, 1) := by decide +kernel
theorem dX5_count_108 : decode cX5_count 108 = .ok (.getfield 412, 3) := by decide +kernel
theorem dX5_count_111 : decode cX5_count 111 = .ok (.ireturn, 1) := by decide +kernel
theorem dX5_count_112 : decode cX5_count 112 = .ok (.aload_n 0, 1) := by decide +kernel
theorem dX5_count_113 : decode cX5_count 113 = .ok (.iconst 0, 1) := by decide +kernel
theorem dX5_count_114 : decode cX5_count 114 = .ok (.iconst 5, 1) := by decide +kernel
theorem dX5_count_115 : decode cX5_count 115 = .ok (.invokevirtual 493, 3) := by decide +kernel
theorem dX5_count_118 : decode cX5_count 118 = .ok (.ireturn, 1) := by decide +kernel
theorem dX5_count_119 : decode cX5_count 119 = .ok (.aload_n 0, 1) := by decide +kernel
theorem dX5_count_120 : decode cX5_count 120 = .ok (.bipush 7, 2) := by decide +kernel
theorem dX5_count_122 : decode cX5_count 122 = .ok (.bipush 7, 2) := by decide +kernel
theorem dX5_count_124 : decode cX5_count 124 = .ok (.invokevirtual 493, 3) := by decide +kernel
theorem dX5_count_127 : decode cX5_count 127 = .ok (.ireturn, 1) := by decide +kernel
theorem dX5_count_128 : decode cX5_count 128 = .ok (.aload_n 0, 1) := by decide +kernel
theorem dX5_count_129 : decode cX5_count 129 = .ok (.iconst 3, 1) := by decide +kernel
theorem dX5_count_130 : decode cX5_count 130 = .ok (.iconst 3, 1) := by decide +kernel
theorem dX5_count_131 : decode cX5_count 131 = .ok (.invokevirtual 493, 3) := by decide +kernel
theorem dX5_count_134 : decode cX5_count 134 = .ok (.ireturn, 1) := by decide +kernel
theorem dX5_count_135 : decode cX5_count 135 = .ok (.aload_n 0, 1) := by decide +kernel
theorem dX5_count_136 : decode cX5_count 136 = .ok (.getfield 415, 3) := by decide +kernel
theorem dX5_count_139 : decode cX5_count 139 = .ok (.ireturn, 1) := by decide +kernel
theorem dX5_count_140 : decode cX5_count 140 = .ok (.aload_n 0, 1) := by decide +kernel
theorem dX5_count_141 : decode cX5_count 141 = .ok (.getfield 406, 3) := by decide +kernel
theorem dX5_count_144 : decode cX5_count 144 = .ok (.ireturn, 1) := by decide +kernel
theorem dX5_count_145 : decode cX5_count 145 = .ok (.aload_n 0, 1) := by decide +kernel
theorem dX5_count_146 : decode cX5_count 146 = .ok (.getfield 428, 3) := by decide +kernel
theorem dX5_count_149 : decode cX5_count 149 = .ok (.ireturn, 1) := by decide +kernel
theorem dX5_count_150 : decode cX5_count 150 = .ok (.aload_n 0, 1) := by decide +kernel
theorem dX5_count_151 : decode cX5_count 151 = .ok (.getfield 456, 3) := by decide +kernel
theorem dX5_count_154 : decode cX5_count 154 = .ok (.ireturn, 1) := by decide +kernel
theorem dX5_count_155 : decode cX5_count 155 = .ok (.aload_n 0, 1) := by decide +kernel
theorem dX5_count_156 : decode cX5_count 156 = .ok (.getfield 465, 3) := by decide +kernel
theorem dX5_count_159 : decode cX5_count 159 = .ok (.ireturn, 1) := by decide +kernel
theorem dX5_count_160 : decode cX5_count 160 = .ok (.aload_n 0, 1) := by decide +kernel
theorem dX5_count_161 : decode cX5_count 161 = .ok (.getfield 484, 3) := by decide +kernel
theorem dX5_count_164 : decode cX5_count 164 = .ok (.ireturn, 1) := by decide +kernel
theorem dX5_count_165 : decode cX5_count 165 = .ok (.aload_n 0, 1) := by decide +kernel
theorem dX5_count_166 : decode cX5_count 166 = .ok (.getfield 397, 3) := by decide +kernel
theorem dX5_count_169 : decode cX5_count 169 = .ok (.ireturn, 1) := by decide +kernel
theorem dX5_count_170 : decode cX5_count 170 = .ok (.aload_n 0, 1) := by decide +kernel
theorem dX5_count_171 : decode cX5_count 171 = .ok (.getfield 481, 3) := by decide +kernel
theorem dX5_count_174 : decode cX5_count 174 = .ok (.ireturn, 1) := by decide +kernel
theorem dX5_count_175 : decode cX5_count 175 = .ok (.aload_n 0, 1) := by decide +kernel
theorem dX5_count_176 : decode cX5_count 176 = .ok (.aload_n 0, 1) := by decide +kernel
theorem dX5_count_177 : decode cX5_count 177 = .ok (.getfield 314, 3) := by decide +kernel
theorem dX5_count_180 : decode cX5_count 180 = .ok (.invokevirtual 359, 3) := by decide +kernel
theorem dX5_count_183 : decode cX5_count 183 = .ok (.ifCond .ge 7, 3) := by decide +kernel
theorem dX5_count_186 : decode cX5_count 186 = .ok (.iconst 0, 1) := by decide +kernel
theorem dX5_count_187 : decode cX5_count 187 = .ok (.goto 16, 3) := by decide +kernel
theorem dX5_count_190 : decode cX5_count 190 = .ok (.aload_n 0, 1) := by decide +kernel
theorem dX5_count_191 : decode cX5_count 191 = .ok (.getfield 24, 3) := by decide +kernel
theorem dX5_count_194 : decode cX5_count 194 = .ok (.aload_n 0, 1) := by decide +kernel
theorem dX5_count_195 : decode cX5_count 195 = .ok (.aload_n 0, 1) := by decide +kernel
theorem dX5_count_196 : decode cX5_count 196 = .ok (.getfield 314, 3) := by decide +kernel
theorem dX5_count_199 : decode cX5_count 199 = .ok (.invokevirtual 359, 3) := by decide +kernel
theorem dX5_count_202 : decode cX5_count 202 = .ok (.iaload, 1) := by decide +kernel
theorem dX5_count_203 : decode cX5_count 203 = .ok (.ireturn, 1) := by decide +kernel
theorem dX5_count_204 : decode cX5_count 204 = .ok (.aload_n 0, 1) := by decide +kernel
theorem dX5_count_205 : decode cX5_count 205 = .ok (.bipush 9, 2) := by decide +kernel
theorem dX5_count_207 : decode cX5_count 207 = .ok (.bipush 9, 2) := by decide +kernel
theorem dX5_count_209 : decode cX5_count 209 = .ok (.invokevirtual 493, 3) := by decide +kernel
theorem dX5_count_212 : decode cX5_count 212 = .ok (.ireturn, 1) := by decide +kernel
theorem dX5_count_213 : decode cX5_count 213 = .ok (.aload_n 0, 1) := by decide +kernel
theorem dX5_count_214 : decode cX5_count 214 = .ok (.bipush 8, 2) := by decide +kernel
theorem dX5_count_216 : decode cX5_count 216 = .ok (.bipush 8, 2) := by decide +kernel
theorem dX5_count_218 : decode cX5_count 218 = .ok (.invokevirtual 493, 3) := by decide +kernel
theorem dX5_count_221 : decode cX5_count 221 = .ok (.ireturn, 1) := by decide +kernel
theorem dX5_count_222 : decode cX5_count 222 = .ok (.iconst (-1), 1) := by decide +kernel
theorem dX5_count_223 : decode cX5_count 223 = .ok (.ireturn, 1) := by decide +kernel
theorem dX5_inState_0 : decode cX5_inState 0 = .ok (.iconst 0, 1) := by decide +kernel
theorem dX5_inState_1 : decode cX5_inState 1 = .ok (.istore_n 3, 1) := by decide +kernel
theorem dX5_inState_2 : decode cX5_inState 2 = .ok (.iconst 0, 1) := by decide +kernel
theorem dX5_inState_3 : decode cX5_inState 3 = .ok (.istore 4, 2) := by decide +kernel
theorem dX5_inState_5 : decode cX5_inState 5 = .ok (.iload 4, 2) := by decide +kernel
theorem dX5_inState_7 : decode cX5_inState 7 = .ok (.aload_n 0, 1) := by decide +kernel
theorem dX5_inState_8 : decode cX5_inState 8 = .ok (.getfield 412, 3) := by decide +kernel
theorem dX5_inState_11 : decode cX5_inState 11 = .ok (.if_icmp .ge 32, 3) := by decide +kernel
theorem dX5_inState_14 : decode cX5_inState 14 = .ok (.iload_n 3, 1) := by decide +kernel
theorem dX5_inState_15 : decode cX5_inState 15 = .ok (.aload_n 0, 1) := by decide +kernel
theorem dX5_inState_16 : decode cX5_inState 16 = .ok (.iload 4, 2) := by decide +kernel
theorem dX5_inState_18 : decode cX5_inState 18 = .ok (.iconst 0, 1) := by decide +kernel
theorem dX5_inState_19 : decode cX5_inState 19 = .ok (.invokevirtual 434, 3) := by decide +kernel
theorem dX5_inState_22 : decode cX5_inState 22 = .ok (.iload_n 1, 1) := by decide +kernel
theorem dX5_inState_23 : decode cX5_inState 23 = .ok (.iload_n 2, 1) := by decide +kernel
theorem dX5_inState_24 : decode cX5_inState 24 = .ok (.invokestatic 317, 3) := by decide +kernel
theorem dX5_inState_27 : decode cX5_inState 27 = .ok (.ifCond .eq 7, 3) := by decide +kernel
theorem dX5_inState_30 : decode cX5_inState 30 = .ok (.iconst 1, 1) := by decide +kernel
theorem dX5_inState_31 : decode cX5_inState 31 = .ok (.goto 4, 3) := by decide +kernel
theorem dX5_inState_34 : decode cX5_inState 34 = .ok (.iconst 0, 1) := by decide +kernel
theorem dX5_inState_35 : decode cX5_inState 35 = .ok (.iadd, 1) := by decide +kernel
theorem dX5_inState_36 : decode cX5_inState 36 = .ok (.istore_n 3, 1) := by decide +kernel
theorem dX5_inState_37 : decode cX5_inState 37 = .ok (.iinc 4 1, 3) := by decide +kernel
theorem dX5_inState_40 : decode cX5_inState 40 = .ok (.goto (-35), 3) := by decide +kernel
theorem dX5_inState_43 : decode cX5_inState 43 = .ok (.iload_n 3, 1) := by decide +kernel
theorem dX5_inState_44 : decode cX5_inState 44 = .ok (.ireturn, 1) := by decide +kernel
theorem dJ11_min_0 : decode cJ11_min 0 = .ok (.iload_n 0, 1) := by decide +kernel
theorem dJ11_min_1 : decode cJ11_min 1 = .ok (.iload_n 1, 1) := by decide +kernel
theorem dJ11_min_2 : decode cJ11_min 2 = .ok (.if_icmp .gt 7, 3) := by decide +kernel
theorem dJ11_min_5 : decode cJ11_min 5 = .ok (.iload_n 0, 1) := by decide +kernel
theorem dJ11_min_6 : decode cJ11_min 6 = .ok (.goto 4, 3) := by decide +kernel
theorem dJ11_min_9 : decode cJ11_min 9 = .ok (.iload_n 1, 1) := by decide +kernel
theorem dJ11_min_10 : decode cJ11_min 10 = .ok (.ireturn, 1) := by decide +kernel
theorem dJ11_max_0 : decode cJ11_max 0 = .ok (.iload_n 0, 1) := by decide +kernel
theorem dJ11_max_1 : decode cJ11_max 1 = .ok (.iload_n 1, 1) := by decide +kernel
theorem dJ11_max_2 : decode cJ11_max 2 = .ok (.if_icmp .lt 7, 3) := by decide +kernel
theorem dJ11_max_5 : decode cJ11_max 5 = .ok (.iload_n 0, 1) := by decide +kernel
theorem dJ11_max_6 : decode cJ11_max 6 = .ok (.goto 4, 3) := by decide +kernel
theorem dJ11_max_9 : decode cJ11_max 9 = .ok (.iload_n 1, 1) := by decide +kernel
theorem dJ11_max_10 : decode cJ11_max 10 = .ok (.ireturn, 1) := by decide +kernel
theorem dJ11_floorDiv_0 : decode cJ11_floorDiv 0 = .ok (.iload_n 0, 1) := by decide +kernel
theorem dJ11_floorDiv_1 : decode cJ11_floorDiv 1 = .ok (.iload_n 1, 1) := by decide +kernel
theorem dJ11_floorDiv_2 : decode cJ11_floorDiv 2 = .ok (.idiv, 1) := by decide +kernel
theorem dJ11_floorDiv_3 : decode cJ11_floorDiv 3 = .ok (.istore_n 2, 1) := by decide +kernel
theorem dJ11_floorDiv_4 : decode cJ11_floorDiv 4 = .ok (.iload_n 0, 1) := by decide +kernel
theorem dJ11_floorDiv_5 : decode cJ11_floorDiv 5 = .ok (.iload_n 1, 1) := by decide +kernel
theorem dJ11_floorDiv_6 : decode cJ11_floorDiv 6 = .ok (.ixor, 1) := by decide +kernel
theorem dJ11_floorDiv_7 : decode cJ11_floorDiv 7 = .ok (.ifCond .ge 14, 3) := by decide +kernel
theorem dJ11_floorDiv_10 : decode cJ11_floorDiv 10 = .ok (.iload_n 2, 1) := by decide +kernel
theorem dJ11_floorDiv_11 : decode cJ11_floorDiv 11 = .ok (.iload_n 1, 1) := by decide +kernel
theorem dJ11_floorDiv_12 : decode cJ11_floorDiv 12 = .ok (.imul, 1) := by decide +kernel
theorem dJ11_floorDiv_13 : decode cJ11_floorDiv 13 = .ok (.iload_n 0, 1) := by decide +kernel
theorem dJ11_floorDiv_14 : decode cJ11_floorDiv 14 = .ok (.if_icmp .eq 7, 3) := by decide +kernel
theorem dJ11_floorDiv_17 : decode cJ11_floorDiv 17 = .ok (.iload_n 2, 1) := by decide +kernel
theorem dJ11_floorDiv_18 : decode cJ11_floorDiv 18 = .ok (.iconst 1, 1) := by decide +kernel
theorem dJ11_floorDiv_19 : decode cJ11_floorDiv 19 = .ok (.isub, 1) := by decide +kernel
theorem dJ11_floorDiv_20 : decode cJ11_floorDiv 20 = .ok (.ireturn, 1) := by decide +kernel
theorem dJ11_floorDiv_21 : decode cJ11_floorDiv 21 = .ok (.iload_n 2, 1) := by decide +kernel
theorem dJ11_floorDiv_22 : decode cJ11_floorDiv 22 = .ok (.ireturn, 1) := by decide +kernel
