/-! method names and decode rows: X5 J11 -/
set_option maxRecDepth 100000
theorem dX5_person_106 : decode cX5_person 106 = .ok (.getfield 58, 3) := by decide +kernel
theorem dX5_person_109 : decode cX5_person 109 = .ok (.aload_n 0, 1) := by decide +kernel
theorem dX5_person_110 : decode cX5_person 110 = .ok (.getfield 372, 3) := by decide +kernel
theorem dX5_person_113 : decode cX5_person 113 = .ok (.iload_n 2, 1) := by decide +kernel
theorem dX5_person_114 : decode cX5_person 114 = .ok (.bastore, 1) := by decide +kernel
theorem dX5_person_115 : decode cX5_person 115 = .ok (.aload_n 0, 1) := by decide +kernel
theorem dX5_person_116 : decode cX5_person 116 = .ok (.getfield 61, 3) := by decide +kernel
theorem dX5_person_119 : decode cX5_person 119 = .ok (.iconst 5, 1) := by decide +kernel
theorem dX5_person_120 : decode cX5_person 120 = .ok (.aload_n 0, 1) := by decide +kernel
theorem dX5_person_121 : decode cX5_person 121 = .ok (.getfield 372, 3) := by decide +kernel
theorem dX5_person_124 : decode cX5_person 124 = .ok (.imul, 1) := by decide +kernel
theorem dX5_person_125 : decode cX5_person 125 = .ok (.iload_n 3, 1) := by decide +kernel
theorem dX5_person_126 : decode cX5_person 126 = .ok (.iastore, 1) := by decide +kernel
theorem dX5_person_127 : decode cX5_person 127 = .ok (.aload_n 0, 1) := by decide +kernel
theorem dX5_person_128 : decode cX5_person 128 = .ok (.getfield 61, 3) := by decide +kernel
theorem dX5_person_131 : decode cX5_person 131 = .ok (.iconst 5, 1) := by decide +kernel
theorem dX5_person_132 : decode cX5_person 132 = .ok (.aload_n 0, 1) := by decide +kernel
theorem dX5_person_133 : decode cX5_person 133 = .ok (.getfield 372, 3) := by decide +kernel
theorem dX5_person_136 : decode cX5_person 136 = .ok (.imul, 1) := by decide +kernel
theorem dX5_person_137 : decode cX5_person 137 = .ok (.iconst 1, 1) := by decide +kernel
theorem dX5_person_138 : decode cX5_person 138 = .ok (.iadd, 1) := by decide +kernel
theorem dX5_person_139 : decode cX5_person 139 = .ok (.iload 4, 2) := by decide +kernel
theorem dX5_person_141 : decode cX5_person 141 = .ok (.iastore, 1) := by decide +kernel
theorem dX5_person_142 : decode cX5_person 142 = .ok (.aload_n 0, 1) := by decide +kernel
theorem dX5_person_143 : decode cX5_person 143 = .ok (.getfield 61, 3) := by decide +kernel
theorem dX5_person_146 : decode cX5_person 146 = .ok (.iconst 5, 1) := by decide +kernel
theorem dX5_person_147 : decode cX5_person 147 = .ok (.aload_n 0, 1) := by decide +kernel
theorem dX5_person_148 : decode cX5_person 148 = .ok (.getfield 372, 3) := by decide +kernel
theorem dX5_person_151 : decode cX5_person 151 = .ok (.imul, 1) := by decide +kernel
theorem dX5_person_152 : decode cX5_person 152 = .ok (.iconst 2, 1) := by decide +kernel
theorem dX5_person_153 : decode cX5_person 153 = .ok (.iadd, 1) := by decide +kernel
theorem dX5_person_154 : decode cX5_person 154 = .ok (.iload 5, 2) := by decide +kernel
theorem dX5_person_156 : decode cX5_person 156 = .ok (.iastore, 1) := by decide +kernel
theorem dX5_person_157 : decode cX5_person 157 = .ok (.aload_n 0, 1) := by decide +kernel
theorem dX5_person_158 : decode cX5_person 158 = .ok (.getfield 61, 3) := by decide +kernel
theorem dX5_person_161 : decode cX5_person 161 = .ok (.iconst 5, 1) := by decide +kernel
theorem dX5_person_162 : decode cX5_person 162 = .ok (.aload_n 0, 1) := by decide +kernel
theorem dX5_person_163 : decode cX5_person 163 = .ok (.getfield 372, 3) := by decide +kernel
theorem dX5_person_166 : decode cX5_person 166 = .ok (.imul, 1) := by decide +kernel
theorem dX5_person_167 : decode cX5_person 167 = .ok (.iconst 3, 1) := by decide +kernel
theorem dX5_person_168 : decode cX5_person 168 = .ok (.iadd, 1) := by decide +kernel
theorem dX5_person_169 : decode cX5_person 169 = .ok (.iload 6, 2) := by decide +kernel
theorem dX5_person_171 : decode cX5_person 171 = .ok (.iastore, 1) := by decide +kernel
theorem dX5_person_172 : decode cX5_person 172 = .ok (.aload_n 0, 1) := by decide +kernel
theorem dX5_person_173 : decode cX5_person 173 = .ok (.getfield 61, 3) := by decide +kernel
theorem dX5_person_176 : decode cX5_person 176 = .ok (.iconst 5, 1) := by decide +kernel
theorem dX5_person_177 : decode cX5_person 177 = .ok (.aload_n 0, 1) := by decide +kernel
theorem dX5_person_178 : decode cX5_person 178 = .ok (.getfield 372, 3) := by decide +kernel
theorem dX5_person_181 : decode cX5_person 181 = .ok (.imul, 1) := by decide +kernel
theorem dX5_person_182 : decode cX5_person 182 = .ok (.iconst 4, 1) := by decide +kernel
theorem dX5_person_183 : decode cX5_person 183 = .ok (.iadd, 1) := by decide +kernel
theorem dX5_person_184 : decode cX5_person 184 = .ok (.iload 7, 2) := by decide +kernel
theorem dX5_person_186 : decode cX5_person 186 = .ok (.iastore, 1) := by decide +kernel
theorem dX5_person_187 : decode cX5_person 187 = .ok (.aload_n 0, 1) := by decide +kernel
theorem dX5_person_188 : decode cX5_person 188 = .ok (.dup, 1) := by decide +kernel
theorem dX5_person_189 : decode cX5_person 189 = .ok (.getfield 372, 3) := by decide +kernel
theorem dX5_person_192 : decode cX5_person 192 = .ok (.iconst 1, 1) := by decide +kernel
theorem dX5_person_193 : decode cX5_person 193 = .ok (.iadd, 1) := by decide +kernel
theorem dX5_person_194 : decode cX5_person 194 = .ok (.putfield 372, 3) := by decide +kernel
theorem dX5_person_197 : decode cX5_person 197 = .ok (.aload_n 0, 1) := by decide +kernel
theorem dX5_person_198 : decode cX5_person 198 = .ok (.getfield 372, 3) := by decide +kernel
theorem dX5_person_201 : decode cX5_person 201 = .ok (.iconst 1, 1) := by decide +kernel
theorem dX5_person_202 : decode cX5_person 202 = .ok (.isub, 1) := by decide +kernel
theorem dX5_person_203 : decode cX5_person 203 = .ok (.ireturn, 1) := by decide +kernel
theorem dX5_noFace_0 : decode cX5_noFace 0 = .ok (.iload_n 0, 1) := by decide +kernel
theorem dX5_noFace_1 : decode cX5_noFace 1 = .ok (.iconst 0, 1) := by decide +kernel
theorem dX5_noFace_2 : decode cX5_noFace 2 = .ok (.bipush 99, 2) := by decide +kernel
theorem dX5_noFace_4 : decode cX5_noFace 4 = .ok (.invokestatic 317, 3) := by decide +kernel
theorem dX5_noFace_7 : decode cX5_noFace 7 = .ok (.ifCond .ne 7, 3) := by decide +kernel
theorem dX5_noFace_10 : decode cX5_noFace 10 = .ok (.iconst 1, 1) := by decide +kernel
theorem dX5_noFace_11 : decode cX5_noFace 11 = .ok (.goto 4, 3) := by decide +kernel
theorem dX5_noFace_14 : decode cX5_noFace 14 = .ok (.iconst 0, 1) := by decide +kernel
theorem dX5_noFace_15 : decode cX5_noFace 15 = .ok (.ireturn, 1) := by decide +kernel
theorem dX5_name_0 : decode cX5_name 0 = .ok (.aload_n 0, 1) := by decide +kernel
theorem dX5_name_1 : decode cX5_name 1 = .ok (.invokevirtual 311, 3) := by decide +kernel
theorem dX5_name_4 : decode cX5_name 4 = .ok (.aload_n 0, 1) := by decide +kernel
theorem dX5_name_5 : decode cX5_name 5 = .ok (.aload_n 0, 1) := by decide +kernel
theorem dX5_name_6 : decode cX5_name 6 = .ok (.iload_n 1, 1) := by decide +kernel
theorem dX5_name_7 : decode cX5_name 7 = .ok (.invokevirtual 385, 3) := by decide +kernel
theorem dX5_name_10 : decode cX5_name 10 = .ok (.iconst 1, 1) := by decide +kernel
theorem dX5_name_11 : decode cX5_name 11 = .ok (.invokevirtual 321, 3) := by decide +kernel
theorem dX5_name_14 : decode cX5_name 14 = .ok (.ifCond .eq 5, 3) := by decide +kernel
theorem dX5_name_17 : decode cX5_name 17 = .ok (.iconst 0, 1) := by decide +kernel
theorem dX5_name_18 : decode cX5_name 18 = .ok (.ireturn, 1) := by decide +kernel
theorem dX5_name_19 : decode cX5_name 19 = .ok (.aload_n 0, 1) := by decide +kernel
theorem dX5_name_20 : decode cX5_name 20 = .ok (.invokevirtual 388, 3) := by decide +kernel
theorem dX5_name_23 : decode cX5_name 23 = .ok (.istore_n 2, 1) := by decide +kernel
theorem dX5_name_24 : decode cX5_name 24 = .ok (.aload_n 0, 1) := by decide +kernel
theorem dX5_name_25 : decode cX5_name 25 = .ok (.iload_n 2, 1) := by decide +kernel
theorem dX5_name_26 : decode cX5_name 26 = .ok (.ifCond .ge 10, 3) := by decide +kernel
theorem dX5_name_29 : decode cX5_name 29 = .ok (.aload_n 0, 1) := by decide +kernel
theorem dX5_name_30 : decode cX5_name 30 = .ok (.getfield 194, 3) := by decide +kernel
theorem dX5_name_33 : decode cX5_name 33 = .ok (.goto 4, 3) := by decide +kernel
theorem dX5_name_36 : decode cX5_name 36 = .ok (.iconst (-1), 1) := by decide +kernel
theorem dX5_name_37 : decode cX5_name 37 = .ok (.putfield 13, 3) := by decide +kernel
theorem dX5_name_40 : decode cX5_name 40 = .ok (.aload_n 0, 1) := by decide +kernel
theorem dX5_name_41 : decode cX5_name 41 = .ok (.iload_n 2, 1) := by decide +kernel
theorem dX5_name_42 : decode cX5_name 42 = .ok (.ifCond .ge 7, 3) := by decide +kernel
theorem dX5_name_45 : decode cX5_name 45 = .ok (.iconst 1, 1) := by decide +kernel
theorem dX5_name_46 : decode cX5_name 46 = .ok (.goto 4, 3) := by decide +kernel
theorem dX5_name_49 : decode cX5_name 49 = .ok (.iconst 0, 1) := by decide +kernel
theorem dX5_name_50 : decode cX5_name 50 = .ok (.iconst 2, 1) := by decide +kernel
theorem dX5_name_51 : decode cX5_name 51 = .ok (.invokevirtual 321, 3) := by decide +kernel
theorem dX5_name_54 : decode cX5_name 54 = .ok (.ifCond .eq 5, 3) := by decide +kernel
theorem dX5_name_57 : decode cX5_name 57 = .ok (.iconst 0, 1) := by decide +kernel
theorem dX5_name_58 : decode cX5_name 58 = .ok (.ireturn, 1) := by decide +kernel
theorem dX5_name_59 : decode cX5_name 59 = .ok (.aload_n 0, 1) := by decide +kernel
theorem dX5_name_60 : decode cX5_name 60 = .ok (.getfield 67, 3) := by decide +kernel
theorem dX5_name_63 : decode cX5_name 63 = .ok (.iload_n 1, 1) := by decide +kernel
theorem dX5_name_64 : decode cX5_name 64 = .ok (.iconst 1, 1) := by decide +kernel
theorem dX5_name_65 : decode cX5_name 65 = .ok (.bastore, 1) := by decide +kernel
theorem dX5_name_66 : decode cX5_name 66 = .ok (.iconst 0, 1) := by decide +kernel
theorem dX5_name_67 : decode cX5_name 67 = .ok (.istore_n 3, 1) := by decide +kernel
theorem dX5_name_68 : decode cX5_name 68 = .ok (.iload_n 3, 1) := by decide +kernel
theorem dX5_name_69 : decode cX5_name 69 = .ok (.bipush 24, 2) := by decide +kernel
theorem dX5_name_71 : decode cX5_name 71 = .ok (.if_icmp .ge 36, 3) := by decide +kernel
theorem dX5_name_74 : decode cX5_name 74 = .ok (.aload_n 0, 1) := by decide +kernel
theorem dX5_name_75 : decode cX5_name 75 = .ok (.getfield 64, 3) := by decide +kernel
theorem dX5_name_78 : decode cX5_name 78 = .ok (.bipush 24, 2) := by decide +kernel
theorem dX5_name_80 : decode cX5_name 80 = .ok (.iload_n 1, 1) := by decide +kernel
theorem dX5_name_81 : decode cX5_name 81 = .ok (.imul, 1) := by decide +kernel
theorem dX5_name_82 : decode cX5_name 82 = .ok (.iload_n 3, 1) := by decide +kernel
theorem dX5_name_83 : decode cX5_name 83 = .ok (.iadd, 1) := by decide +kernel
theorem dX5_name_84 : decode cX5_name 84 = .ok (.iload_n 3, 1) := by decide +kernel
theorem dX5_name_85 : decode cX5_name 85 = .ok (.iload_n 2, 1) := by decide +kernel
theorem dX5_name_86 : decode cX5_name 86 = .ok (.if_icmp .ge 12, 3) := by decide +kernel
theorem dX5_name_89 : decode cX5_name 89 = .ok (.aload_n 0, 1) := by decide +kernel
theorem dX5_name_90 : decode cX5_name 90 = .ok (.getfield 73, 3) := by decide +kernel
theorem dX5_name_93 : decode cX5_name 93 = .ok (.iload_n 3, 1) := by decide +kernel
theorem dX5_name_94 : decode cX5_name 94 = .ok (.iaload, 1) := by decide +kernel
theorem dX5_name_95 : decode cX5_name 95 = .ok (.goto 5, 3) := by decide +kernel
theorem dX5_name_98 : decode cX5_name 98 = .ok (.bipush 60, 2) := by decide +kernel
theorem dX5_name_100 : decode cX5_name 100 = .ok (.iastore, 1) := by decide +kernel
theorem dX5_name_101 : decode cX5_name 101 = .ok (.iinc 3 1, 3) := by decide +kernel
theorem dX5_name_104 : decode cX5_name 104 = .ok (.goto (-36), 3) := by decide +kernel
theorem dX5_name_107 : decode cX5_name 107 = .ok (.iload_n 2, 1) := by decide +kernel
theorem dX5_name_108 : decode cX5_name 108 = .ok (.ireturn, 1) := by decide +kernel
theorem dX5_nobody_0 : decode cX5_nobody 0 = .ok (.iload_n 1, 1) := by decide +kernel
theorem dX5_nobody_1 : decode cX5_nobody 1 = .ok (.iconst 0, 1) := by decide +kernel
theorem dX5_nobody_2 : decode cX5_nobody 2 = .ok (.aload_n 0, 1) := by decide +kernel
theorem dX5_nobody_3 : decode cX5_nobody 3 = .ok (.getfield 372, 3) := by decide +kernel
theorem dX5_nobody_6 : decode cX5_nobody 6 = .ok (.iconst 1, 1) := by decide +kernel
theorem dX5_nobody_7 : decode cX5_nobody 7 = .ok (.isub, 1) := by decide +kernel
theorem dX5_nobody_8 : decode cX5_nobody 8 = .ok (.invokestatic 317, 3) := by decide +kernel
theorem dX5_nobody_11 : decode cX5_nobody 11 = .ok (.ifCond .ne 7, 3) := by decide +kernel
theorem dX5_nobody_14 : decode cX5_nobody 14 = .ok (.iconst 1, 1) := by decide +kernel
theorem dX5_nobody_15 : decode cX5_nobody 15 = .ok (.goto 4, 3) := by decide +kernel
theorem dX5_nobody_18 : decode cX5_nobody 18 = .ok (.iconst 0, 1) := by decide +kernel
theorem dX5_nobody_19 : decode cX5_nobody 19 = .ok (.ireturn, 1) := by decide +kernel
theorem dX5_readName_0 : decode cX5_readName 0 = .ok (.iconst 0, 1) := by decide +kernel
theorem dX5_readName_1 : decode cX5_readName 1 = .ok (.istore_n 1, 1) := by decide +kernel
theorem dX5_readName_2 : decode cX5_readName 2 = .ok (.bipush 32, 2) := by decide +kernel
theorem dX5_readName_4 : decode cX5_readName 4 = .ok (.istore_n 2, 1) := by decide +kernel
theorem dX5_readName_5 : decode cX5_readName 5 = .ok (.aload_n 0, 1) := by decide +kernel
theorem dX5_readName_6 : decode cX5_readName 6 = .ok (.iconst 0, 1) := by decide +kernel
theorem dX5_readName_7 : decode cX5_readName 7 = .ok (.putfield 187, 3) := by decide +kernel
theorem dX5_readName_10 : decode cX5_readName 10 = .ok (.aload_n 0, 1) := by decide +kernel
theorem dX5_readName_11 : decode cX5_readName 11 = .ok (.getfield 187, 3) := by decide +kernel
theorem dX5_readName_14 : decode cX5_readName 14 = .ok (.aload_n 0, 1) := by decide +kernel
theorem dX5_readName_15 : decode cX5_readName 15 = .ok (.getfield 184, 3) := by decide +kernel
theorem dX5_readName_18 : decode cX5_readName 18 = .ok (.if_icmp .ge 114, 3) := by decide +kernel
theorem dX5_readName_21 : decode cX5_readName 21 = .ok (.aload_n 0, 1) := by decide +kernel
theorem dX5_readName_22 : decode cX5_readName 22 = .ok (.getfield 9, 3) := by decide +kernel
theorem dX5_readName_25 : decode cX5_readName 25 = .ok (.aload_n 0, 1) := by decide +kernel
theorem dX5_readName_26 : decode cX5_readName 26 = .ok (.getfield 187, 3) := by decide +kernel
theorem dX5_readName_29 : decode cX5_readName 29 = .ok (.baload, 1) := by decide +kernel
theorem dX5_readName_30 : decode cX5_readName 30 = .ok (.sipush 255, 3) := by decide +kernel
theorem dX5_readName_33 : decode cX5_readName 33 = .ok (.iand, 1) := by decide +kernel
theorem dX5_readName_34 : decode cX5_readName 34 = .ok (.istore_n 3, 1) := by decide +kernel
theorem dX5_readName_35 : decode cX5_readName 35 = .ok (.iload_n 3, 1) := by decide +kernel
theorem dX5_readName_36 : decode cX5_readName 36 = .ok (.invokestatic 379, 3) := by decide +kernel
theorem dX5_readName_39 : decode cX5_readName 39 = .ok (.istore 4, 2) := by decide +kernel
theorem dX5_readName_41 : decode cX5_readName 41 = .ok (.aload_n 0, 1) := by decide +kernel
theorem dX5_readName_42 : decode cX5_readName 42 = .ok (.aload_n 0, 1) := by decide +kernel
theorem dX5_readName_43 : decode cX5_readName 43 = .ok (.getfield 187, 3) := by decide +kernel
theorem dX5_readName_46 : decode cX5_readName 46 = .ok (.putfield 194, 3) := by decide +kernel
theorem dX5_readName_49 : decode cX5_readName 49 = .ok (.aload_n 0, 1) := by decide +kernel
theorem dX5_readName_50 : decode cX5_readName 50 = .ok (.getfield 187, 3) := by decide +kernel
theorem dX5_readName_53 : decode cX5_readName 53 = .ok (.bipush 24, 2) := by decide +kernel
theorem dX5_readName_55 : decode cX5_readName 55 = .ok (.if_icmp .eq 22, 3) := by decide +kernel
theorem dX5_readName_58 : decode cX5_readName 58 = .ok (.iload 4, 2) := by decide +kernel
theorem dX5_readName_60 : decode cX5_readName 60 = .ok (.ifCond .eq 17, 3) := by decide +kernel
theorem dX5_readName_63 : decode cX5_readName 63 = .ok (.iload_n 3, 1) := by decide +kernel
theorem dX5_readName_64 : decode cX5_readName 64 = .ok (.invokestatic 382, 3) := by decide +kernel
theorem dX5_readName_67 : decode cX5_readName 67 = .ok (.ifCond .eq 12, 3) := by decide +kernel
theorem dX5_readName_70 : decode cX5_readName 70 = .ok (.iload_n 2, 1) := by decide +kernel
theorem dX5_readName_71 : decode cX5_readName 71 = .ok (.invokestatic 382, 3) := by decide +kernel
theorem dX5_readName_74 : decode cX5_readName 74 = .ok (.ifCond .eq 5, 3) := by decide +kernel
theorem dX5_readName_77 : decode cX5_readName 77 = .ok (.iconst (-1), 1) := by decide +kernel
theorem dX5_readName_78 : decode cX5_readName 78 = .ok (.ireturn, 1) := by decide +kernel
theorem dX5_readName_79 : decode cX5_readName 79 = .ok (.aload_n 0, 1) := by decide +kernel
theorem dX5_readName_80 : decode cX5_readName 80 = .ok (.getfield 73, 3) := by decide +kernel
theorem dX5_readName_83 : decode cX5_readName 83 = .ok (.iload_n 1, 1) := by decide +kernel
theorem dX5_readName_84 : decode cX5_readName 84 = .ok (.iload 4, 2) := by decide +kernel
theorem dX5_readName_86 : decode cX5_readName 86 = .ok (.sipush 256, 3) := by decide +kernel
theorem dX5_readName_89 : decode cX5_readName 89 = .ok (.irem, 1) := by decide +kernel
theorem dX5_readName_90 : decode cX5_readName 90 = .ok (.iastore, 1) := by decide +kernel
theorem dX5_readName_91 : decode cX5_readName 91 = .ok (.iinc 1 1, 3) := by decide +kernel
theorem dX5_readName_94 : decode cX5_readName 94 = .ok (.iload 4, 2) := by decide +kernel
theorem dX5_readName_96 : decode cX5_readName 96 = .ok (.sipush 256, 3) := by decide +kernel
theorem dX5_readName_99 : decode cX5_readName 99 = .ok (.if_icmp .lt 18, 3) := by decide +kernel
theorem dX5_readName_102 : decode cX5_readName 102 = .ok (.aload_n 0, 1) := by decide +kernel
theorem dX5_readName_103 : decode cX5_readName 103 = .ok (.getfield 73, 3) := by decide +kernel
theorem dX5_readName_106 : decode cX5_readName 106 = .ok (.iload_n 1, 1) := by decide +kernel
theorem dX5_readName_107 : decode cX5_readName 107 = .ok (.iload 4, 2) := by decide +kernel
theorem dX5_readName_109 : decode cX5_readName 109 = .ok (.sipush 256, 3) := by decide +kernel
theorem dX5_readName_112 : decode cX5_readName 112 = .ok (.idiv, 1) := by decide +kernel
theorem dX5_readName_113 : decode cX5_readName 113 = .ok (.iastore, 1) := by decide +kernel
theorem dX5_readName_114 : decode cX5_readName 114 = .ok (.iinc 1 1, 3) := by decide +kernel
theorem dX5_readName_117 : decode cX5_readName 117 = .ok (.iload_n 3, 1) := by decide +kernel
theorem dX5_readName_118 : decode cX5_readName 118 = .ok (.istore_n 2, 1) := by decide +kernel
theorem dX5_readName_119 : decode cX5_readName 119 = .ok (.aload_n 0, 1) := by decide +kernel
theorem dX5_readName_120 : decode cX5_readName 120 = .ok (.dup, 1) := by decide +kernel
theorem dX5_readName_121 : decode cX5_readName 121 = .ok (.getfield 187, 3) := by decide +kernel
theorem dX5_readName_124 : decode cX5_readName 124 = .ok (.iconst 1, 1) := by decide +kernel
theorem dX5_readName_125 : decode cX5_readName 125 = .ok (.iadd, 1) := by decide +kernel
theorem dX5_readName_126 : decode cX5_readName 126 = .ok (.putfield 187, 3) := by decide +kernel
theorem dX5_readName_129 : decode cX5_readName 129 = .ok (.goto (-119), 3) := by decide +kernel
theorem dX5_readName_132 : decode cX5_readName 132 = .ok (.aload_n 0, 1) := by decide +kernel
theorem dX5_readName_133 : decode cX5_readName 133 = .ok (.aload_n 0, 1) := by decide +kernel
theorem dX5_readName_134 : decode cX5_readName 134 = .ok (.getfield 184, 3) := by decide +kernel
theorem dX5_readName_137 : decode cX5_readName 137 = .ok (.putfield 194, 3) := by decide +kernel
theorem dX5_readName_140 : decode cX5_readName 140 = .ok (.iload_n 2, 1) := by decide +kernel
theorem dX5_readName_141 : decode cX5_readName 141 = .ok (.invokestatic 382, 3) := by decide +kernel
theorem dX5_readName_144 : decode cX5_readName 144 = .ok (.ifCond .eq 7, 3) := by decide +kernel
theorem dX5_readName_147 : decode cX5_readName 147 = .ok (.iconst (-1), 1) := by decide +kernel
theorem dX5_readName_148 : decode cX5_readName 148 = .ok (.goto 4, 3) := by decide +kernel
theorem dX5_readName_151 : decode cX5_readName 151 = .ok (.iload_n 1, 1) := by decide +kernel
theorem dX5_readName_152 : decode cX5_readName 152 = .ok (.ireturn, 1) := by decide +kernel
theorem dX5_turnOf_0 : decode cX5_turnOf 0 = .ok (.iload_n 0, 1) := by decide +kernel
theorem dX5_turnOf_1 : decode cX5_turnOf 1 = .ok (.bipush 65, 2) := by decide +kernel
theorem dX5_turnOf_3 : decode cX5_turnOf 3 = .ok (.bipush 90, 2) := by decide +kernel
theorem dX5_turnOf_5 : decode cX5_turnOf 5 = .ok (.invokestatic 317, 3) := by decide +kernel
theorem dX5_turnOf_8 : decode cX5_turnOf 8 = .ok (.ifCond .eq 5, 3) := by decide +kernel
theorem dX5_turnOf_11 : decode cX5_turnOf 11 = .ok (.iload_n 0, 1) := by decide +kernel
theorem dX5_turnOf_12 : decode cX5_turnOf 12 = .ok (.ireturn, 1) := by decide +kernel
theorem dX5_turnOf_13 : decode cX5_turnOf 13 = .ok (.iload_n 0, 1) := by decide +kernel
theorem dX5_turnOf_14 : decode cX5_turnOf 14 = .ok (.bipush 97, 2) := by decide +kernel
theorem dX5_turnOf_16 : decode cX5_turnOf 16 = .ok (.bipush 122, 2) := by decide +kernel
theorem dX5_turnOf_18 : decode cX5_turnOf 18 = .ok (.invokestatic 317, 3) := by decide +kernel
theorem dX5_turnOf_21 : decode cX5_turnOf 21 = .ok (.ifCond .eq 8, 3) := by decide +kernel
theorem dX5_turnOf_24 : decode cX5_turnOf 24 = .ok (.iload_n 0, 1) := by decide +kernel
theorem dX5_turnOf_25 : decode cX5_turnOf 25 = .ok (.bipush 32, 2) := by decide +kernel
theorem dX5_turnOf_27 : decode cX5_turnOf 27 = .ok (.isub, 1) := by decide +kernel
theorem dX5_turnOf_28 : decode cX5_turnOf 28 = .ok (.ireturn, 1) := by decide +kernel
theorem dX5_turnOf_29 : decode cX5_turnOf 29 = .ok (.iload_n 0, 1) := by decide +kernel
theorem dX5_turnOf_30 : decode cX5_turnOf 30 = .ok (.lookupswitch 226 #[(32, 194), (45, 194), (196, 197), (197, 213), (198, 197), (199, 223), (200, 220), (201, 220), (209, 217), (214, 201), (216, 201), (220, 205), (223, 209), (228, 197), (229, 213), (230, 197), (231, 223), (232, 220), (233, 220), (241, 217), (246, 201), (248, 201), (252, 205)], 194) := by decide +kernel
theorem dX5_turnOf_224 : decode cX5_turnOf 224 = .ok (.bipush 60, 2) := by decide +kernel
theorem dX5_turnOf_226 : decode cX5_turnOf 226 = .ok (.ireturn, 1) := by decide +kernel
theorem dX5_turnOf_227 : decode cX5_turnOf 227 = .ok (.sipush 17729, 3) := by decide +kernel
theorem dX5_turnOf_230 : decode cX5_turnOf 230 = .ok (.ireturn, 1) := by decide +kernel
theorem dX5_turnOf_231 : decode cX5_turnOf 231 = .ok (.sipush 17743, 3) := by decide +kernel
theorem dX5_turnOf_234 : decode cX5_turnOf 234 = .ok (.ireturn, 1) := by decide +kernel
theorem dX5_turnOf_235 : decode cX5_turnOf 235 = .ok (.sipush 17749, 3) := by decide +kernel
theorem dX5_turnOf_238 : decode cX5_turnOf 238 = .ok (.ireturn, 1) := by decide +kernel
theorem dX5_turnOf_239 : decode cX5_turnOf 239 = .ok (.sipush 21331, 3) := by decide +kernel
theorem dX5_turnOf_242 : decode cX5_turnOf 242 = .ok (.ireturn, 1) := by decide +kernel
theorem dX5_turnOf_243 : decode cX5_turnOf 243 = .ok (.sipush 16705, 3) := by decide +kernel
theorem dX5_turnOf_246 : decode cX5_turnOf 246 = .ok (.ireturn, 1) := by decide +kernel
theorem dX5_turnOf_247 : decode cX5_turnOf 247 = .ok (.bipush 78, 2) := by decide +kernel
theorem dX5_turnOf_249 : decode cX5_turnOf 249 = .ok (.ireturn, 1) := by decide +kernel
theorem dX5_turnOf_250 : decode cX5_turnOf 250 = .ok (.bipush 69, 2) := by decide +kernel
theorem dX5_turnOf_252 : decode cX5_turnOf 252 = .ok (.ireturn, 1) := by decide +kernel
theorem dX5_turnOf_253 : decode cX5_turnOf 253 = .ok (.bipush 67, 2) := by decide +kernel
theorem dX5_turnOf_255 : decode cX5_turnOf 255 = .ok (.ireturn, 1) := by decide +kernel
theorem dX5_turnOf_256 : decode cX5_turnOf 256 = .ok (.iconst 0, 1) := by decide +kernel
theorem dX5_turnOf_257 : decode cX5_turnOf 257 = .ok (.ireturn, 1) := by decide +kernel
theorem dX5_isGap_0 : decode cX5_isGap 0 = .ok (.iload_n 0, 1) := by decide +kernel
theorem dX5_isGap_1 : decode cX5_isGap 1 = .ok (.bipush 32, 2) := by decide +kernel
theorem dX5_isGap_3 : decode cX5_isGap 3 = .ok (.if_icmp .eq 9, 3) := by decide +kernel
theorem dX5_isGap_6 : decode cX5_isGap 6 = .ok (.iload_n 0, 1) := by decide +kernel
theorem dX5_isGap_7 : decode cX5_isGap 7 = .ok (.bipush 45, 2) := by decide +kernel
theorem dX5_isGap_9 : decode cX5_isGap 9 = .ok (.if_icmp .ne 7, 3) := by decide +kernel
theorem dX5_isGap_12 : decode cX5_isGap 12 = .ok (.iconst 1, 1) := by decide +kernel
theorem dX5_isGap_13 : decode cX5_isGap 13 = .ok (.goto 4, 3) := by decide +kernel
theorem dX5_isGap_16 : decode cX5_isGap 16 = .ok (.iconst 0, 1) := by decide +kernel
theorem dX5_isGap_17 : decode cX5_isGap 17 = .ok (.ireturn, 1) := by decide +kernel
theorem dX5_sign_0 : decode cX5_sign 0 = .ok (.aload_n 0, 1) := by decide +kernel
theorem dX5_sign_1 : decode cX5_sign 1 = .ok (.iconst 0, 1) := by decide +kernel
theorem dX5_sign_2 : decode cX5_sign 2 = .ok (.putfield 178, 3) := by decide +kernel
theorem dX5_sign_5 : decode cX5_sign 5 = .ok (.aload_n 0, 1) := by decide +kernel
theorem dX5_sign_6 : decode cX5_sign 6 = .ok (.aload_n 0, 1) := by decide +kernel
theorem dX5_sign_7 : decode cX5_sign 7 = .ok (.iload_n 1, 1) := by decide +kernel
theorem dX5_sign_8 : decode cX5_sign 8 = .ok (.invokevirtual 385, 3) := by decide +kernel
theorem dX5_sign_11 : decode cX5_sign 11 = .ok (.iconst 1, 1) := by decide +kernel
theorem dX5_sign_12 : decode cX5_sign 12 = .ok (.invokevirtual 321, 3) := by decide +kernel
theorem dX5_sign_15 : decode cX5_sign 15 = .ok (.ifCond .eq 7, 3) := by decide +kernel
theorem dX5_sign_18 : decode cX5_sign 18 = .ok (.iconst 0, 1) := by decide +kernel
theorem dX5_sign_19 : decode cX5_sign 19 = .ok (.goto 37, 3) := by decide +kernel
theorem dX5_sign_22 : decode cX5_sign 22 = .ok (.aload_n 0, 1) := by decide +kernel
theorem dX5_sign_23 : decode cX5_sign 23 = .ok (.getfield 67, 3) := by decide +kernel
theorem dX5_sign_26 : decode cX5_sign 26 = .ok (.iload_n 1, 1) := by decide +kernel
theorem dX5_sign_27 : decode cX5_sign 27 = .ok (.baload, 1) := by decide +kernel
theorem dX5_sign_28 : decode cX5_sign 28 = .ok (.ifCond .eq 27, 3) := by decide +kernel
theorem dX5_sign_31 : decode cX5_sign 31 = .ok (.iload_n 2, 1) := by decide +kernel
theorem dX5_sign_32 : decode cX5_sign 32 = .ok (.iconst 0, 1) := by decide +kernel
theorem dX5_sign_33 : decode cX5_sign 33 = .ok (.bipush 23, 2) := by decide +kernel
theorem dX5_sign_35 : decode cX5_sign 35 = .ok (.invokestatic 317, 3) := by decide +kernel
theorem dX5_sign_38 : decode cX5_sign 38 = .ok (.ifCond .eq 17, 3) := by decide +kernel
theorem dX5_sign_41 : decode cX5_sign 41 = .ok (.aload_n 0, 1) := by decide +kernel
theorem dX5_sign_42 : decode cX5_sign 42 = .ok (.getfield 64, 3) := by decide +kernel
theorem dX5_sign_45 : decode cX5_sign 45 = .ok (.bipush 24, 2) := by decide +kernel
theorem dX5_sign_47 : decode cX5_sign 47 = .ok (.iload_n 1, 1) := by decide +kernel
theorem dX5_sign_48 : decode cX5_sign 48 = .ok (.imul, 1) := by decide +kernel
theorem dX5_sign_49 : decode cX5_sign 49 = .ok (.iload_n 2, 1) := by decide +kernel
theorem dX5_sign_50 : decode cX5_sign 50 = .ok (.iadd, 1) := by decide +kernel
theorem dX5_sign_51 : decode cX5_sign 51 = .ok (.iaload, 1) := by decide +kernel
theorem dX5_sign_52 : decode cX5_sign 52 = .ok (.goto 4, 3) := by decide +kernel
theorem dX5_sign_55 : decode cX5_sign 55 = .ok (.iconst (-1), 1) := by decide +kernel
theorem dX5_sign_56 : decode cX5_sign 56 = .ok (.ireturn, 1) := by decide +kernel
theorem dX5_figure_0 : decode cX5_figure 0 = .ok (.aload_n 0, 1) := by decide +kernel
theorem dX5_figure_1 : decode cX5_figure 1 = .ok (.iconst 0, 1) := by decide +kernel
theorem dX5_figure_2 : decode cX5_figure 2 = .ok (.putfield 178, 3) := by decide +kernel
theorem dX5_figure_5 : decode cX5_figure 5 = .ok (.aload_n 0, 1) := by decide +kernel
theorem dX5_figure_6 : decode cX5_figure 6 = .ok (.aload_n 0, 1) := by decide +kernel
theorem dX5_figure_7 : decode cX5_figure 7 = .ok (.iload_n 1, 1) := by decide +kernel
theorem dX5_figure_8 : decode cX5_figure 8 = .ok (.invokevirtual 385, 3) := by decide +kernel
theorem dX5_figure_11 : decode cX5_figure 11 = .ok (.iconst 1, 1) := by decide +kernel
theorem dX5_figure_12 : decode cX5_figure 12 = .ok (.invokevirtual 321, 3) := by decide +kernel
theorem dX5_figure_15 : decode cX5_figure 15 = .ok (.ifCond .eq 5, 3) := by decide +kernel
theorem dX5_figure_18 : decode cX5_figure 18 = .ok (.iconst 0, 1) := by decide +kernel
theorem dX5_figure_19 : decode cX5_figure 19 = .ok (.ireturn, 1) := by decide +kernel
theorem dX5_figure_20 : decode cX5_figure 20 = .ok (.aload_n 0, 1) := by decide +kernel
theorem dX5_figure_21 : decode cX5_figure 21 = .ok (.getfield 67, 3) := by decide +kernel
theorem dX5_figure_24 : decode cX5_figure 24 = .ok (.iload_n 1, 1) := by decide +kernel
theorem dX5_figure_25 : decode cX5_figure 25 = .ok (.baload, 1) := by decide +kernel
theorem dX5_figure_26 : decode cX5_figure 26 = .ok (.ifCond .ne 5, 3) := by decide +kernel
theorem dX5_figure_29 : decode cX5_figure 29 = .ok (.iconst (-1), 1) := by decide +kernel
theorem dX5_figure_30 : decode cX5_figure 30 = .ok (.ireturn, 1) := by decide +kernel
theorem dX5_figure_31 : decode cX5_figure 31 = .ok (.iconst 0, 1) := by decide +kernel
theorem dX5_figure_32 : decode cX5_figure 32 = .ok (.istore_n 2, 1) := by decide +kernel
theorem dX5_figure_33 : decode cX5_figure 33 = .ok (.iconst 0, 1) := by decide +kernel
theorem dX5_figure_34 : decode cX5_figure 34 = .ok (.istore_n 3, 1) := by decide +kernel
theorem dX5_figure_35 : decode cX5_figure 35 = .ok (.iload_n 3, 1) := by decide +kernel
theorem dX5_figure_36 : decode cX5_figure 36 = .ok (.bipush 24, 2) := by decide +kernel
theorem dX5_figure_38 : decode cX5_figure 38 = .ok (.if_icmp .ge 68, 3) := by decide +kernel
theorem dX5_figure_41 : decode cX5_figure 41 = .ok (.aload_n 0, 1) := by decide +kernel
theorem dX5_figure_42 : decode cX5_figure 42 = .ok (.getfield 64, 3) := by decide +kernel
theorem dX5_figure_45 : decode cX5_figure 45 = .ok (.bipush 24, 2) := by decide +kernel
theorem dX5_figure_47 : decode cX5_figure 47 = .ok (.iload_n 1, 1) := by decide +kernel
theorem dX5_figure_48 : decode cX5_figure 48 = .ok (.imul, 1) := by decide +kernel
theorem dX5_figure_49 : decode cX5_figure 49 = .ok (.iload_n 3, 1) := by decide +kernel
theorem dX5_figure_50 : decode cX5_figure 50 = .ok (.iadd, 1) := by decide +kernel
theorem dX5_figure_51 : decode cX5_figure 51 = .ok (.iaload, 1) := by decide +kernel
theorem dX5_figure_52 : decode cX5_figure 52 = .ok (.istore 4, 2) := by decide +kernel
theorem dX5_figure_54 : decode cX5_figure 54 = .ok (.iload_n 2, 1) := by decide +kernel
theorem dX5_figure_55 : decode cX5_figure 55 = .ok (.iload 4, 2) := by decide +kernel
theorem dX5_figure_57 : decode cX5_figure 57 = .ok (.bipush 60, 2) := by decide +kernel
theorem dX5_figure_59 : decode cX5_figure 59 = .ok (.if_icmp .ne 7, 3) := by decide +kernel
theorem dX5_figure_62 : decode cX5_figure 62 = .ok (.iconst 0, 1) := by decide +kernel
theorem dX5_figure_63 : decode cX5_figure 63 = .ok (.goto 11, 3) := by decide +kernel
theorem dX5_figure_66 : decode cX5_figure 66 = .ok (.iload 4, 2) := by decide +kernel
theorem dX5_figure_68 : decode cX5_figure 68 = .ok (.bipush 65, 2) := by decide +kernel
theorem dX5_figure_70 : decode cX5_figure 70 = .ok (.isub, 1) := by decide +kernel
theorem dX5_figure_71 : decode cX5_figure 71 = .ok (.bipush 10, 2) := by decide +kernel
theorem dX5_figure_73 : decode cX5_figure 73 = .ok (.iadd, 1) := by decide +kernel
theorem dX5_figure_74 : decode cX5_figure 74 = .ok (.iload_n 3, 1) := by decide +kernel
theorem dX5_figure_75 : decode cX5_figure 75 = .ok (.iconst 3, 1) := by decide +kernel
theorem dX5_figure_76 : decode cX5_figure 76 = .ok (.irem, 1) := by decide +kernel
theorem dX5_figure_77 : decode cX5_figure 77 = .ok (.ifCond .ne 8, 3) := by decide +kernel
theorem dX5_figure_80 : decode cX5_figure 80 = .ok (.bipush 7, 2) := by decide +kernel
theorem dX5_figure_82 : decode cX5_figure 82 = .ok (.goto 15, 3) := by decide +kernel
theorem dX5_figure_85 : decode cX5_figure 85 = .ok (.iload_n 3, 1) := by decide +kernel
theorem dX5_figure_86 : decode cX5_figure 86 = .ok (.iconst 3, 1) := by decide +kernel
theorem dX5_figure_87 : decode cX5_figure 87 = .ok (.irem, 1) := by decide +kernel
theorem dX5_figure_88 : decode cX5_figure 88 = .ok (.iconst 1, 1) := by decide +kernel
theorem dX5_figure_89 : decode cX5_figure 89 = .ok (.if_icmp .ne 7, 3) := by decide +kernel
theorem dX5_figure_92 : decode cX5_figure 92 = .ok (.iconst 3, 1) := by decide +kernel
theorem dX5_figure_93 : decode cX5_figure 93 = .ok (.goto 4, 3) := by decide +kernel
theorem dX5_figure_96 : decode cX5_figure 96 = .ok (.iconst 1, 1) := by decide +kernel
theorem dX5_figure_97 : decode cX5_figure 97 = .ok (.imul, 1) := by decide +kernel
theorem dX5_figure_98 : decode cX5_figure 98 = .ok (.iadd, 1) := by decide +kernel
theorem dX5_figure_99 : decode cX5_figure 99 = .ok (.istore_n 2, 1) := by decide +kernel
theorem dX5_figure_100 : decode cX5_figure 100 = .ok (.iinc 3 1, 3) := by decide +kernel
theorem dX5_figure_103 : decode cX5_figure 103 = .ok (.goto (-68), 3) := by decide +kernel
theorem dX5_figure_106 : decode cX5_figure 106 = .ok (.iload_n 2, 1) := by decide +kernel
theorem dX5_figure_107 : decode cX5_figure 107 = .ok (.bipush 10, 2) := by decide +kernel
theorem dX5_figure_109 : decode cX5_figure 109 = .ok (.irem, 1) := by decide +kernel
theorem dX5_figure_110 : decode cX5_figure 110 = .ok (.ireturn, 1) := by decide +kernel
theorem dX5_far_0 : decode cX5_far 0 = .ok (.aload_n 0, 1) := by decide +kernel
theorem dX5_far_1 : decode cX5_far 1 = .ok (.iconst 0, 1) := by decide +kernel
theorem dX5_far_2 : decode cX5_far 2 = .ok (.putfield 178, 3) := by decide +kernel
theorem dX5_far_5 : decode cX5_far 5 = .ok (.aload_n 0, 1) := by decide +kernel
theorem dX5_far_6 : decode cX5_far 6 = .ok (.aload_n 0, 1) := by decide +kernel
theorem dX5_far_7 : decode cX5_far 7 = .ok (.iload_n 1, 1) := by decide +kernel
theorem dX5_far_8 : decode cX5_far 8 = .ok (.invokevirtual 385, 3) := by decide +kernel
theorem dX5_far_11 : decode cX5_far 11 = .ok (.ifCond .ne 11, 3) := by decide +kernel
theorem dX5_far_14 : decode cX5_far 14 = .ok (.aload_n 0, 1) := by decide +kernel
theorem dX5_far_15 : decode cX5_far 15 = .ok (.iload_n 2, 1) := by decide +kernel
theorem dX5_far_16 : decode cX5_far 16 = .ok (.invokevirtual 385, 3) := by decide +kernel
theorem dX5_far_19 : decode cX5_far 19 = .ok (.ifCond .eq 7, 3) := by decide +kernel
theorem dX5_far_22 : decode cX5_far 22 = .ok (.iconst 1, 1) := by decide +kernel
theorem dX5_far_23 : decode cX5_far 23 = .ok (.goto 4, 3) := by decide +kernel
theorem dX5_far_26 : decode cX5_far 26 = .ok (.iconst 0, 1) := by decide +kernel
theorem dX5_far_27 : decode cX5_far 27 = .ok (.iconst 1, 1) := by decide +kernel
theorem dX5_far_28 : decode cX5_far 28 = .ok (.invokevirtual 321, 3) := by decide +kernel
theorem dX5_far_31 : decode cX5_far 31 = .ok (.ifCond .eq 7, 3) := by decide +kernel
theorem dX5_far_34 : decode cX5_far 34 = .ok (.iconst 0, 1) := by decide +kernel
theorem dX5_far_35 : decode cX5_far 35 = .ok (.goto 9, 3) := by decide +kernel
theorem dX5_far_38 : decode cX5_far 38 = .ok (.aload_n 0, 1) := by decide +kernel
theorem dX5_far_39 : decode cX5_far 39 = .ok (.iload_n 1, 1) := by decide +kernel
theorem dX5_far_40 : decode cX5_far 40 = .ok (.iload_n 2, 1) := by decide +kernel
theorem dX5_far_41 : decode cX5_far 41 = .ok (.invokevirtual 391, 3) := by decide +kernel
theorem dX5_far_44 : decode cX5_far 44 = .ok (.ireturn, 1) := by decide +kernel
theorem dX5_farOf_0 : decode cX5_farOf 0 = .ok (.iconst 0, 1) := by decide +kernel
theorem dX5_farOf_1 : decode cX5_farOf 1 = .ok (.istore_n 3, 1) := by decide +kernel
theorem dX5_farOf_2 : decode cX5_farOf 2 = .ok (.iconst 0, 1) := by decide +kernel
theorem dX5_farOf_3 : decode cX5_farOf 3 = .ok (.istore 4, 2) := by decide +kernel
theorem dX5_farOf_5 : decode cX5_farOf 5 = .ok (.iload 4, 2) := by decide +kernel
theorem dX5_farOf_7 : decode cX5_farOf 7 = .ok (.iconst 5, 1) := by decide +kernel
theorem dX5_farOf_8 : decode cX5_farOf 8 = .ok (.if_icmp .ge 42, 3) := by decide +kernel
theorem dX5_farOf_11 : decode cX5_farOf 11 = .ok (.aload_n 0, 1) := by decide +kernel
theorem dX5_farOf_12 : decode cX5_farOf 12 = .ok (.getfield 61, 3) := by decide +kernel
theorem dX5_farOf_15 : decode cX5_farOf 15 = .ok (.iconst 5, 1) := by decide +kernel
theorem dX5_farOf_16 : decode cX5_farOf 16 = .ok (.iload_n 1, 1) := by decide +kernel
theorem dX5_farOf_17 : decode cX5_farOf 17 = .ok (.imul, 1) := by decide +kernel
theorem dX5_farOf_18 : decode cX5_farOf 18 = .ok (.iload 4, 2) := by decide +kernel
theorem dX5_farOf_20 : decode cX5_farOf 20 = .ok (.iadd, 1) := by decide +kernel
theorem dX5_farOf_21 : decode cX5_farOf 21 = .ok (.iaload, 1) := by decide +kernel
theorem dX5_farOf_22 : decode cX5_farOf 22 = .ok (.aload_n 0, 1) := by decide +kernel
theorem dX5_farOf_23 : decode cX5_farOf 23 = .ok (.getfield 61, 3) := by decide +kernel
theorem dX5_farOf_26 : decode cX5_farOf 26 = .ok (.iconst 5, 1) := by decide +kernel
theorem dX5_farOf_27 : decode cX5_farOf 27 = .ok (.iload_n 2, 1) := by decide +kernel
theorem dX5_farOf_28 : decode cX5_farOf 28 = .ok (.imul, 1) := by decide +kernel
theorem dX5_farOf_29 : decode cX5_farOf 29 = .ok (.iload 4, 2) := by decide +kernel
theorem dX5_farOf_31 : decode cX5_farOf 31 = .ok (.iadd, 1) := by decide +kernel
theorem dX5_farOf_32 : decode cX5_farOf 32 = .ok (.iaload, 1) := by decide +kernel
theorem dX5_farOf_33 : decode cX5_farOf 33 = .ok (.isub, 1) := by decide +kernel
theorem dX5_farOf_34 : decode cX5_farOf 34 = .ok (.istore 5, 2) := by decide +kernel
theorem dX5_farOf_36 : decode cX5_farOf 36 = .ok (.iload_n 3, 1) := by decide +kernel
theorem dX5_farOf_37 : decode cX5_farOf 37 = .ok (.iload 5, 2) := by decide +kernel
theorem dX5_farOf_39 : decode cX5_farOf 39 = .ok (.iload 5, 2) := by decide +kernel
theorem dX5_farOf_41 : decode cX5_farOf 41 = .ok (.imul, 1) := by decide +kernel
theorem dX5_farOf_42 : decode cX5_farOf 42 = .ok (.iadd, 1) := by decide +kernel
theorem dX5_farOf_43 : decode cX5_farOf 43 = .ok (.istore_n 3, 1) := by decide +kernel
theorem dX5_farOf_44 : decode cX5_farOf 44 = .ok (.iinc 4 1, 3) := by decide +kernel
theorem dX5_farOf_47 : decode cX5_farOf 47 = .ok (.goto (-42), 3) := by decide +kernel
theorem dX5_farOf_50 : decode cX5_farOf 50 = .ok (.iload_n 3, 1) := by decide +kernel
theorem dX5_farOf_51 : decode cX5_farOf 51 = .ok (.ireturn, 1) := by decide +kernel
theorem dX5_hands_0 : decode cX5_hands 0 = .ok (.aload_n 0, 1) := by decide +kernel
theorem dX5_hands_1 : decode cX5_hands 1 = .ok (.iconst 0, 1) := by decide +kernel
theorem dX5_hands_2 : decode cX5_hands 2 = .ok (.putfield 178, 3) := by decide +kernel
theorem dX5_hands_5 : decode cX5_hands 5 = .ok (.aload_n 0, 1) := by decide +kernel
theorem dX5_hands_6 : decode cX5_hands 6 = .ok (.iload_n 1, 1) := by decide +kernel
theorem dX5_hands_7 : decode cX5_hands 7 = .ok (.invokestatic 394, 3) := by decide +kernel
theorem dX5_hands_10 : decode cX5_hands 10 = .ok (.iconst 1, 1) := by decide +kernel
theorem dX5_hands_11 : decode cX5_hands 11 = .ok (.invokevirtual 321, 3) := by decide +kernel
theorem dX5_hands_14 : decode cX5_hands 14 = .ok (.ifCond .ne 26, 3) := by decide +kernel
theorem dX5_hands_17 : decode cX5_hands 17 = .ok (.aload_n 0, 1) := by decide +kernel
theorem dX5_hands_18 : decode cX5_hands 18 = .ok (.iload_n 2, 1) := by decide +kernel
theorem dX5_hands_19 : decode cX5_hands 19 = .ok (.iconst 0, 1) := by decide +kernel
theorem dX5_hands_20 : decode cX5_hands 20 = .ok (.bipush 30, 2) := by decide +kernel
theorem dX5_hands_22 : decode cX5_hands 22 = .ok (.invokestatic 317, 3) := by decide +kernel
theorem dX5_hands_25 : decode cX5_hands 25 = .ok (.ifCond .ne 7, 3) := by decide +kernel
theorem dX5_hands_28 : decode cX5_hands 28 = .ok (.iconst 1, 1) := by decide +kernel
theorem dX5_hands_29 : decode cX5_hands 29 = .ok (.goto 4, 3) := by decide +kernel
theorem dX5_hands_32 : decode cX5_hands 32 = .ok (.iconst 0, 1) := by decide +kernel
theorem dX5_hands_33 : decode cX5_hands 33 = .ok (.iconst 2, 1) := by decide +kernel
theorem dX5_hands_34 : decode cX5_hands 34 = .ok (.invokevirtual 321, 3) := by decide +kernel
theorem dX5_hands_37 : decode cX5_hands 37 = .ok (.ifCond .eq 4, 3) := by decide +kernel
theorem dX5_hands_40 : decode cX5_hands 40 = .ok (.return_, 1) := by decide +kernel
theorem dX5_hands_41 : decode cX5_hands 41 = .ok (.aload_n 0, 1) := by decide +kernel
theorem dX5_hands_42 : decode cX5_hands 42 = .ok (.getfield 94, 3) := by decide +kernel
theorem dX5_hands_45 : decode cX5_hands 45 = .ok (.iload_n 1, 1) := by decide +kernel
theorem dX5_hands_46 : decode cX5_hands 46 = .ok (.iload_n 2, 1) := by decide +kernel
theorem dX5_hands_47 : decode cX5_hands 47 = .ok (.iastore, 1) := by decide +kernel
theorem dX5_hands_48 : decode cX5_hands 48 = .ok (.return_, 1) := by decide +kernel
theorem dX5_noDesk_0 : decode cX5_noDesk 0 = .ok (.iload_n 0, 1) := by decide +kernel
theorem dX5_noDesk_1 : decode cX5_noDesk 1 = .ok (.iconst 0, 1) := by decide +kernel
theorem dX5_noDesk_2 : decode cX5_noDesk 2 = .ok (.iconst 3, 1) := by decide +kernel
theorem dX5_noDesk_3 : decode cX5_noDesk 3 = .ok (.invokestatic 317, 3) := by decide +kernel
theorem dX5_noDesk_6 : decode cX5_noDesk 6 = .ok (.ifCond .ne 7, 3) := by decide +kernel
theorem dX5_noDesk_9 : decode cX5_noDesk 9 = .ok (.iconst 1, 1) := by decide +kernel
theorem dX5_noDesk_10 : decode cX5_noDesk 10 = .ok (.goto 4, 3) := by decide +kernel
theorem dX5_noDesk_13 : decode cX5_noDesk 13 = .ok (.iconst 0, 1) := by decide +kernel
theorem dX5_noDesk_14 : decode cX5_noDesk 14 = .ok (.ireturn, 1) := by decide +kernel
theorem dX5_lend_0 : decode cX5_lend 0 = .ok (.aload_n 0, 1) := by decide +kernel
theorem dX5_lend_1 : decode cX5_lend 1 = .ok (.iconst 0, 1) := by decide +kernel
theorem dX5_lend_2 : decode cX5_lend 2 = .ok (.putfield 178, 3) := by decide +kernel
theorem dX5_lend_5 : decode cX5_lend 5 = .ok (.aload_n 0, 1) := by decide +kernel
theorem dX5_lend_6 : decode cX5_lend 6 = .ok (.iload_n 1, 1) := by decide +kernel
theorem dX5_lend_7 : decode cX5_lend 7 = .ok (.invokestatic 394, 3) := by decide +kernel
theorem dX5_lend_10 : decode cX5_lend 10 = .ok (.iconst 1, 1) := by decide +kernel
theorem dX5_lend_11 : decode cX5_lend 11 = .ok (.invokevirtual 321, 3) := by decide +kernel
theorem dX5_lend_14 : decode cX5_lend 14 = .ok (.ifCond .ne 59, 3) := by decide +kernel
theorem dX5_lend_17 : decode cX5_lend 17 = .ok (.aload_n 0, 1) := by decide +kernel
theorem dX5_lend_18 : decode cX5_lend 18 = .ok (.iload_n 2, 1) := by decide +kernel
theorem dX5_lend_19 : decode cX5_lend 19 = .ok (.iconst 1, 1) := by decide +kernel
theorem dX5_lend_20 : decode cX5_lend 20 = .ok (.bipush 30, 2) := by decide +kernel
theorem dX5_lend_22 : decode cX5_lend 22 = .ok (.invokestatic 317, 3) := by decide +kernel
theorem dX5_lend_25 : decode cX5_lend 25 = .ok (.ifCond .eq 36, 3) := by decide +kernel
theorem dX5_lend_28 : decode cX5_lend 28 = .ok (.iload_n 3, 1) := by decide +kernel
theorem dX5_lend_29 : decode cX5_lend 29 = .ok (.aload_n 0, 1) := by decide +kernel
theorem dX5_lend_30 : decode cX5_lend 30 = .ok (.getfield 314, 3) := by decide +kernel
theorem dX5_lend_33 : decode cX5_lend 33 = .ok (.if_icmp .lt 28, 3) := by decide +kernel
theorem dX5_lend_36 : decode cX5_lend 36 = .ok (.iload 4, 2) := by decide +kernel
theorem dX5_lend_38 : decode cX5_lend 38 = .ok (.iload_n 3, 1) := by decide +kernel
theorem dX5_lend_39 : decode cX5_lend 39 = .ok (.if_icmp .lt 22, 3) := by decide +kernel
theorem dX5_lend_42 : decode cX5_lend 42 = .ok (.iload 4, 2) := by decide +kernel
theorem dX5_lend_44 : decode cX5_lend 44 = .ok (.sipush 1000, 3) := by decide +kernel
theorem dX5_lend_47 : decode cX5_lend 47 = .ok (.if_icmp .gt 14, 3) := by decide +kernel
theorem dX5_lend_50 : decode cX5_lend 50 = .ok (.iload 5, 2) := by decide +kernel
theorem dX5_lend_52 : decode cX5_lend 52 = .ok (.iconst 0, 1) := by decide +kernel
theorem dX5_lend_53 : decode cX5_lend 53 = .ok (.bipush 30, 2) := by decide +kernel
theorem dX5_lend_55 : decode cX5_lend 55 = .ok (.invokestatic 317, 3) := by decide +kernel
theorem dX5_lend_58 : decode cX5_lend 58 = .ok (.ifCond .ne 7, 3) := by decide +kernel
theorem dX5_lend_61 : decode cX5_lend 61 = .ok (.iconst 1, 1) := by decide +kernel
theorem dX5_lend_62 : decode cX5_lend 62 = .ok (.goto 4, 3) := by decide +kernel
theorem dX5_lend_65 : decode cX5_lend 65 = .ok (.iconst 0, 1) := by decide +kernel
theorem dX5_lend_66 : decode cX5_lend 66 = .ok (.iconst 2, 1) := by decide +kernel
theorem dX5_lend_67 : decode cX5_lend 67 = .ok (.invokevirtual 321, 3) := by decide +kernel
theorem dX5_lend_70 : decode cX5_lend 70 = .ok (.ifCond .eq 5, 3) := by decide +kernel
theorem dX5_lend_73 : decode cX5_lend 73 = .ok (.iconst 0, 1) := by decide +kernel
theorem dX5_lend_74 : decode cX5_lend 74 = .ok (.ireturn, 1) := by decide +kernel
theorem dX5_lend_75 : decode cX5_lend 75 = .ok (.aload_n 0, 1) := by decide +kernel
theorem dX5_lend_76 : decode cX5_lend 76 = .ok (.getfield 397, 3) := by decide +kernel
theorem dX5_lend_79 : decode cX5_lend 79 = .ok (.bipush 20, 2) := by decide +kernel
theorem dX5_lend_81 : decode cX5_lend 81 = .ok (.if_icmp .ne 5, 3) := by decide +kernel
theorem dX5_lend_84 : decode cX5_lend 84 = .ok (.iconst (-1), 1) := by decide +kernel
theorem dX5_lend_85 : decode cX5_lend 85 = .ok (.ireturn, 1) := by decide +kernel
theorem dX5_lend_86 : decode cX5_lend 86 = .ok (.aload_n 0, 1) := by decide +kernel
theorem dX5_lend_87 : decode cX5_lend 87 = .ok (.getfield 97, 3) := by decide +kernel
theorem dX5_lend_90 : decode cX5_lend 90 = .ok (.aload_n 0, 1) := by decide +kernel
theorem dX5_lend_91 : decode cX5_lend 91 = .ok (.getfield 397, 3) := by decide +kernel
theorem dX5_lend_94 : decode cX5_lend 94 = .ok (.iload_n 1, 1) := by decide +kernel
theorem dX5_lend_95 : decode cX5_lend 95 = .ok (.iastore, 1) := by decide +kernel
theorem dX5_lend_96 : decode cX5_lend 96 = .ok (.aload_n 0, 1) := by decide +kernel
theorem dX5_lend_97 : decode cX5_lend 97 = .ok (.getfield 100, 3) := by decide +kernel
theorem dX5_lend_100 : decode cX5_lend 100 = .ok (.aload_n 0, 1) := by decide +kernel
theorem dX5_lend_101 : decode cX5_lend 101 = .ok (.getfield 397, 3) := by decide +kernel
theorem dX5_lend_104 : decode cX5_lend 104 = .ok (.iload_n 2, 1) := by decide +kernel
theorem dX5_lend_105 : decode cX5_lend 105 = .ok (.iastore, 1) := by decide +kernel
theorem dX5_lend_106 : decode cX5_lend 106 = .ok (.aload_n 0, 1) := by decide +kernel
theorem dX5_lend_107 : decode cX5_lend 107 = .ok (.getfield 103, 3) := by decide +kernel
theorem dX5_lend_110 : decode cX5_lend 110 = .ok (.aload_n 0, 1) := by decide +kernel
theorem dX5_lend_111 : decode cX5_lend 111 = .ok (.getfield 397, 3) := by decide +kernel
theorem dX5_lend_114 : decode cX5_lend 114 = .ok (.iload_n 3, 1) := by decide +kernel
theorem dX5_lend_115 : decode cX5_lend 115 = .ok (.iastore, 1) := by decide +kernel
theorem dX5_lend_116 : decode cX5_lend 116 = .ok (.aload_n 0, 1) := by decide +kernel
theorem dX5_lend_117 : decode cX5_lend 117 = .ok (.getfield 106, 3) := by decide +kernel
theorem dX5_lend_120 : decode cX5_lend 120 = .ok (.aload_n 0, 1) := by decide +kernel
theorem dX5_lend_121 : decode cX5_lend 121 = .ok (.getfield 397, 3) := by decide +kernel
theorem dX5_lend_124 : decode cX5_lend 124 = .ok (.iload 4, 2) := by decide +kernel
theorem dX5_lend_126 : decode cX5_lend 126 = .ok (.iastore, 1) := by decide +kernel
theorem dX5_lend_127 : decode cX5_lend 127 = .ok (.aload_n 0, 1) := by decide +kernel
theorem dX5_lend_128 : decode cX5_lend 128 = .ok (.getfield 109, 3) := by decide +kernel
theorem dX5_lend_131 : decode cX5_lend 131 = .ok (.aload_n 0, 1) := by decide +kernel
theorem dX5_lend_132 : decode cX5_lend 132 = .ok (.getfield 397, 3) := by decide +kernel
theorem dX5_lend_135 : decode cX5_lend 135 = .ok (.iload 5, 2) := by decide +kernel
theorem dX5_lend_137 : decode cX5_lend 137 = .ok (.iastore, 1) := by decide +kernel
theorem dX5_lend_138 : decode cX5_lend 138 = .ok (.aload_n 0, 1) := by decide +kernel
theorem dX5_lend_139 : decode cX5_lend 139 = .ok (.dup, 1) := by decide +kernel
theorem dX5_lend_140 : decode cX5_lend 140 = .ok (.getfield 397, 3) := by decide +kernel
theorem dX5_lend_143 : decode cX5_lend 143 = .ok (.iconst 1, 1) := by decide +kernel
theorem dX5_lend_144 : decode cX5_lend 144 = .ok (.iadd, 1) := by decide +kernel
theorem dX5_lend_145 : decode cX5_lend 145 = .ok (.putfield 397, 3) := by decide +kernel
theorem dX5_lend_148 : decode cX5_lend 148 = .ok (.aload_n 0, 1) := by decide +kernel
theorem dX5_lend_149 : decode cX5_lend 149 = .ok (.getfield 397, 3) := by decide +kernel
theorem dX5_lend_152 : decode cX5_lend 152 = .ok (.ireturn, 1) := by decide +kernel
theorem dX5_units_0 : decode cX5_units 0 = .ok (.aload_n 0, 1) := by decide +kernel
theorem dX5_units_1 : decode cX5_units 1 = .ok (.iconst 0, 1) := by decide +kernel
theorem dX5_units_2 : decode cX5_units 2 = .ok (.putfield 178, 3) := by decide +kernel
theorem dX5_units_5 : decode cX5_units 5 = .ok (.aload_n 0, 1) := by decide +kernel
theorem dX5_units_6 : decode cX5_units 6 = .ok (.iload_n 1, 1) := by decide +kernel
theorem dX5_units_7 : decode cX5_units 7 = .ok (.invokestatic 394, 3) := by decide +kernel
theorem dX5_units_10 : decode cX5_units 10 = .ok (.iconst 1, 1) := by decide +kernel
theorem dX5_units_11 : decode cX5_units 11 = .ok (.invokevirtual 321, 3) := by decide +kernel
theorem dX5_units_14 : decode cX5_units 14 = .ok (.ifCond .eq 7, 3) := by decide +kernel
theorem dX5_units_17 : decode cX5_units 17 = .ok (.iconst 0, 1) := by decide +kernel
theorem dX5_units_18 : decode cX5_units 18 = .ok (.goto 9, 3) := by decide +kernel
theorem dX5_units_21 : decode cX5_units 21 = .ok (.aload_n 0, 1) := by decide +kernel
theorem dX5_units_22 : decode cX5_units 22 = .ok (.iload_n 1, 1) := by decide +kernel
theorem dX5_units_23 : decode cX5_units 23 = .ok (.iload_n 2, 1) := by decide +kernel
theorem dX5_units_24 : decode cX5_units 24 = .ok (.invokevirtual 400, 3) := by decide +kernel
theorem dX5_units_27 : decode cX5_units 27 = .ok (.ireturn, 1) := by decide +kernel
theorem dX5_unitsOf_0 : decode cX5_unitsOf 0 = .ok (.bipush 8, 2) := by decide +kernel
theorem dX5_unitsOf_2 : decode cX5_unitsOf 2 = .ok (.aload_n 0, 1) := by decide +kernel
theorem dX5_unitsOf_3 : decode cX5_unitsOf 3 = .ok (.getfield 94, 3) := by decide +kernel
theorem dX5_unitsOf_6 : decode cX5_unitsOf 6 = .ok (.iload_n 1, 1) := by decide +kernel
theorem dX5_unitsOf_7 : decode cX5_unitsOf 7 = .ok (.iaload, 1) := by decide +kernel
theorem dX5_unitsOf_8 : decode cX5_unitsOf 8 = .ok (.imul, 1) := by decide +kernel
theorem dX5_unitsOf_9 : decode cX5_unitsOf 9 = .ok (.istore_n 3, 1) := by decide +kernel
theorem dX5_unitsOf_10 : decode cX5_unitsOf 10 = .ok (.iconst 0, 1) := by decide +kernel
theorem dX5_unitsOf_11 : decode cX5_unitsOf 11 = .ok (.istore 4, 2) := by decide +kernel
theorem dX5_unitsOf_13 : decode cX5_unitsOf 13 = .ok (.iload 4, 2) := by decide +kernel
theorem dX5_unitsOf_15 : decode cX5_unitsOf 15 = .ok (.aload_n 0, 1) := by decide +kernel
theorem dX5_unitsOf_16 : decode cX5_unitsOf 16 = .ok (.getfield 397, 3) := by decide +kernel
theorem dX5_unitsOf_19 : decode cX5_unitsOf 19 = .ok (.if_icmp .ge 86, 3) := by decide +kernel
theorem dX5_unitsOf_22 : decode cX5_unitsOf 22 = .ok (.aload_n 0, 1) := by decide +kernel
theorem dX5_unitsOf_23 : decode cX5_unitsOf 23 = .ok (.getfield 97, 3) := by decide +kernel
theorem dX5_unitsOf_26 : decode cX5_unitsOf 26 = .ok (.iload 4, 2) := by decide +kernel
theorem dX5_unitsOf_28 : decode cX5_unitsOf 28 = .ok (.iaload, 1) := by decide +kernel
theorem dX5_unitsOf_29 : decode cX5_unitsOf 29 = .ok (.iload_n 1, 1) := by decide +kernel
theorem dX5_unitsOf_30 : decode cX5_unitsOf 30 = .ok (.if_icmp .ne 69, 3) := by decide +kernel
theorem dX5_unitsOf_33 : decode cX5_unitsOf 33 = .ok (.iload_n 2, 1) := by decide +kernel
theorem dX5_unitsOf_34 : decode cX5_unitsOf 34 = .ok (.aload_n 0, 1) := by decide +kernel
theorem dX5_unitsOf_35 : decode cX5_unitsOf 35 = .ok (.getfield 103, 3) := by decide +kernel
theorem dX5_unitsOf_38 : decode cX5_unitsOf 38 = .ok (.iload 4, 2) := by decide +kernel
theorem dX5_unitsOf_40 : decode cX5_unitsOf 40 = .ok (.iaload, 1) := by decide +kernel
theorem dX5_unitsOf_41 : decode cX5_unitsOf 41 = .ok (.aload_n 0, 1) := by decide +kernel
theorem dX5_unitsOf_42 : decode cX5_unitsOf 42 = .ok (.getfield 106, 3) := by decide +kernel
theorem dX5_unitsOf_45 : decode cX5_unitsOf 45 = .ok (.iload 4, 2) := by decide +kernel
theorem dX5_unitsOf_47 : decode cX5_unitsOf 47 = .ok (.iaload, 1) := by decide +kernel
theorem dX5_unitsOf_48 : decode cX5_unitsOf 48 = .ok (.invokestatic 317, 3) := by decide +kernel
theorem dX5_unitsOf_51 : decode cX5_unitsOf 51 = .ok (.ifCond .eq 48, 3) := by decide +kernel
theorem dX5_unitsOf_54 : decode cX5_unitsOf 54 = .ok (.iload_n 3, 1) := by decide +kernel
theorem dX5_unitsOf_55 : decode cX5_unitsOf 55 = .ok (.iload_n 2, 1) := by decide +kernel
theorem dX5_unitsOf_56 : decode cX5_unitsOf 56 = .ok (.aload_n 0, 1) := by decide +kernel
theorem dX5_unitsOf_57 : decode cX5_unitsOf 57 = .ok (.getfield 103, 3) := by decide +kernel
theorem dX5_unitsOf_60 : decode cX5_unitsOf 60 = .ok (.iload 4, 2) := by decide +kernel
theorem dX5_unitsOf_62 : decode cX5_unitsOf 62 = .ok (.iaload, 1) := by decide +kernel
theorem dX5_unitsOf_63 : decode cX5_unitsOf 63 = .ok (.isub, 1) := by decide +kernel
theorem dX5_unitsOf_64 : decode cX5_unitsOf 64 = .ok (.aload_n 0, 1) := by decide +kernel
theorem dX5_unitsOf_65 : decode cX5_unitsOf 65 = .ok (.getfield 109, 3) := by decide +kernel
theorem dX5_unitsOf_68 : decode cX5_unitsOf 68 = .ok (.iload 4, 2) := by decide +kernel
theorem dX5_unitsOf_70 : decode cX5_unitsOf 70 = .ok (.iaload, 1) := by decide +kernel
theorem dX5_unitsOf_71 : decode cX5_unitsOf 71 = .ok (.if_icmp .ge 16, 3) := by decide +kernel
theorem dX5_unitsOf_74 : decode cX5_unitsOf 74 = .ok (.bipush (-2), 2) := by decide +kernel
theorem dX5_unitsOf_76 : decode cX5_unitsOf 76 = .ok (.aload_n 0, 1) := by decide +kernel
theorem dX5_unitsOf_77 : decode cX5_unitsOf 77 = .ok (.getfield 100, 3) := by decide +kernel
theorem dX5_unitsOf_80 : decode cX5_unitsOf 80 = .ok (.iload 4, 2) := by decide +kernel
theorem dX5_unitsOf_82 : decode cX5_unitsOf 82 = .ok (.iaload, 1) := by decide +kernel
theorem dX5_unitsOf_83 : decode cX5_unitsOf 83 = .ok (.imul, 1) := by decide +kernel
theorem dX5_unitsOf_84 : decode cX5_unitsOf 84 = .ok (.goto 13, 3) := by decide +kernel
theorem dX5_unitsOf_87 : decode cX5_unitsOf 87 = .ok (.bipush 8, 2) := by decide +kernel
theorem dX5_unitsOf_89 : decode cX5_unitsOf 89 = .ok (.aload_n 0, 1) := by decide +kernel
theorem dX5_unitsOf_90 : decode cX5_unitsOf 90 = .ok (.getfield 100, 3) := by decide +kernel
theorem dX5_unitsOf_93 : decode cX5_unitsOf 93 = .ok (.iload 4, 2) := by decide +kernel
theorem dX5_unitsOf_95 : decode cX5_unitsOf 95 = .ok (.iaload, 1) := by decide +kernel
theorem dX5_unitsOf_96 : decode cX5_unitsOf 96 = .ok (.imul, 1) := by decide +kernel
theorem dX5_unitsOf_97 : decode cX5_unitsOf 97 = .ok (.iadd, 1) := by decide +kernel
theorem dX5_unitsOf_98 : decode cX5_unitsOf 98 = .ok (.istore_n 3, 1) := by decide +kernel
theorem dX5_unitsOf_99 : decode cX5_unitsOf 99 = .ok (.iinc 4 1, 3) := by decide +kernel
theorem dX5_unitsOf_102 : decode cX5_unitsOf 102 = .ok (.goto (-89), 3) := by decide +kernel
theorem dX5_unitsOf_105 : decode cX5_unitsOf 105 = .ok (.iconst 0, 1) := by decide +kernel
theorem dX5_unitsOf_106 : decode cX5_unitsOf 106 = .ok (.iload_n 3, 1) := by decide +kernel
theorem dX5_unitsOf_107 : decode cX5_unitsOf 107 = .ok (.invokestatic 366, 3) := by decide +kernel
theorem dX5_unitsOf_110 : decode cX5_unitsOf 110 = .ok (.ireturn, 1) := by decide +kernel
theorem dX5_rules_0 : decode cX5_rules 0 = .ok (.aload_n 0, 1) := by decide +kernel
theorem dX5_rules_1 : decode cX5_rules 1 = .ok (.iconst 0, 1) := by decide +kernel
theorem dX5_rules_2 : decode cX5_rules 2 = .ok (.putfield 178, 3) := by decide +kernel
theorem dX5_rules_5 : decode cX5_rules 5 = .ok (.aload_n 0, 1) := by decide +kernel
theorem dX5_rules_6 : decode cX5_rules 6 = .ok (.iload_n 1, 1) := by decide +kernel
theorem dX5_rules_7 : decode cX5_rules 7 = .ok (.iconst 1, 1) := by decide +kernel
theorem dX5_rules_8 : decode cX5_rules 8 = .ok (.sipush 200, 3) := by decide +kernel
theorem dX5_rules_11 : decode cX5_rules 11 = .ok (.invokestatic 317, 3) := by decide +kernel
theorem dX5_rules_14 : decode cX5_rules 14 = .ok (.ifCond .eq 47, 3) := by decide +kernel
theorem dX5_rules_17 : decode cX5_rules 17 = .ok (.iload_n 2, 1) := by decide +kernel
theorem dX5_rules_18 : decode cX5_rules 18 = .ok (.iconst 0, 1) := by decide +kernel
theorem dX5_rules_19 : decode cX5_rules 19 = .ok (.sipush 10000, 3) := by decide +kernel
theorem dX5_rules_22 : decode cX5_rules 22 = .ok (.invokestatic 317, 3) := by decide +kernel
theorem dX5_rules_25 : decode cX5_rules 25 = .ok (.ifCond .eq 36, 3) := by decide +kernel
theorem dX5_rules_28 : decode cX5_rules 28 = .ok (.iload_n 3, 1) := by decide +kernel
theorem dX5_rules_29 : decode cX5_rules 29 = .ok (.iconst 0, 1) := by decide +kernel
theorem dX5_rules_30 : decode cX5_rules 30 = .ok (.sipush 1000, 3) := by decide +kernel
theorem dX5_rules_33 : decode cX5_rules 33 = .ok (.invokestatic 317, 3) := by decide +kernel
theorem dX5_rules_36 : decode cX5_rules 36 = .ok (.ifCond .eq 25, 3) := by decide +kernel
theorem dX5_rules_39 : decode cX5_rules 39 = .ok (.iload 4, 2) := by decide +kernel
theorem dX5_rules_41 : decode cX5_rules 41 = .ok (.iconst 0, 1) := by decide +kernel
theorem dX5_rules_42 : decode cX5_rules 42 = .ok (.bipush 60, 2) := by decide +kernel
theorem dX5_rules_44 : decode cX5_rules 44 = .ok (.invokestatic 317, 3) := by decide +kernel
theorem dX5_rules_47 : decode cX5_rules 47 = .ok (.ifCond .eq 14, 3) := by decide +kernel
theorem dX5_rules_50 : decode cX5_rules 50 = .ok (.iload 5, 2) := by decide +kernel
theorem dX5_rules_52 : decode cX5_rules 52 = .ok (.iconst 0, 1) := by decide +kernel
theorem dX5_rules_53 : decode cX5_rules 53 = .ok (.bipush 60, 2) := by decide +kernel
theorem dX5_rules_55 : decode cX5_rules 55 = .ok (.invokestatic 317, 3) := by decide +kernel
theorem dX5_rules_58 : decode cX5_rules 58 = .ok (.ifCond .ne 7, 3) := by decide +kernel
theorem dX5_rules_61 : decode cX5_rules 61 = .ok (.iconst 1, 1) := by decide +kernel
theorem dX5_rules_62 : decode cX5_rules 62 = .ok (.goto 4, 3) := by decide +kernel
theorem dX5_rules_65 : decode cX5_rules 65 = .ok (.iconst 0, 1) := by decide +kernel
theorem dX5_rules_66 : decode cX5_rules 66 = .ok (.iconst 1, 1) := by decide +kernel
theorem dX5_rules_67 : decode cX5_rules 67 = .ok (.invokevirtual 321, 3) := by decide +kernel
theorem dX5_rules_70 : decode cX5_rules 70 = .ok (.ifCond .eq 4, 3) := by decide +kernel
theorem dX5_rules_73 : decode cX5_rules 73 = .ok (.return_, 1) := by decide +kernel
theorem dX5_rules_74 : decode cX5_rules 74 = .ok (.aload_n 0, 1) := by decide +kernel
theorem dX5_rules_75 : decode cX5_rules 75 = .ok (.iload_n 1, 1) := by decide +kernel
theorem dX5_rules_76 : decode cX5_rules 76 = .ok (.putfield 76, 3) := by decide +kernel
theorem dX5_rules_79 : decode cX5_rules 79 = .ok (.aload_n 0, 1) := by decide +kernel
theorem dX5_rules_80 : decode cX5_rules 80 = .ok (.iload_n 2, 1) := by decide +kernel
theorem dX5_rules_81 : decode cX5_rules 81 = .ok (.putfield 79, 3) := by decide +kernel
theorem dX5_rules_84 : decode cX5_rules 84 = .ok (.aload_n 0, 1) := by decide +kernel
theorem dX5_rules_85 : decode cX5_rules 85 = .ok (.iload_n 3, 1) := by decide +kernel
theorem dX5_rules_86 : decode cX5_rules 86 = .ok (.putfield 82, 3) := by decide +kernel
theorem dX5_rules_89 : decode cX5_rules 89 = .ok (.aload_n 0, 1) := by decide +kernel
theorem dX5_rules_90 : decode cX5_rules 90 = .ok (.iload 4, 2) := by decide +kernel
theorem dX5_rules_92 : decode cX5_rules 92 = .ok (.putfield 85, 3) := by decide +kernel
theorem dX5_rules_95 : decode cX5_rules 95 = .ok (.aload_n 0, 1) := by decide +kernel
theorem dX5_rules_96 : decode cX5_rules 96 = .ok (.iload 5, 2) := by decide +kernel
theorem dX5_rules_98 : decode cX5_rules 98 = .ok (.putfield 88, 3) := by decide +kernel
theorem dX5_rules_101 : decode cX5_rules 101 = .ok (.return_, 1) := by decide +kernel
theorem dX5_order_0 : decode cX5_order 0 = .ok (.aload_n 0, 1) := by decide +kernel
theorem dX5_order_1 : decode cX5_order 1 = .ok (.iconst 0, 1) := by decide +kernel
theorem dX5_order_2 : decode cX5_order 2 = .ok (.putfield 178, 3) := by decide +kernel
theorem dX5_order_5 : decode cX5_order 5 = .ok (.aload_n 0, 1) := by decide +kernel
theorem dX5_order_6 : decode cX5_order 6 = .ok (.iload_n 1, 1) := by decide +kernel
theorem dX5_order_7 : decode cX5_order 7 = .ok (.iconst 0, 1) := by decide +kernel
theorem dX5_order_8 : decode cX5_order 8 = .ok (.iconst 2, 1) := by decide +kernel
theorem dX5_order_9 : decode cX5_order 9 = .ok (.invokestatic 317, 3) := by decide +kernel
theorem dX5_order_12 : decode cX5_order 12 = .ok (.ifCond .ne 7, 3) := by decide +kernel
theorem dX5_order_15 : decode cX5_order 15 = .ok (.iconst 1, 1) := by decide +kernel
theorem dX5_order_16 : decode cX5_order 16 = .ok (.goto 4, 3) := by decide +kernel
theorem dX5_order_19 : decode cX5_order 19 = .ok (.iconst 0, 1) := by decide +kernel
theorem dX5_order_20 : decode cX5_order 20 = .ok (.iconst 1, 1) := by decide +kernel
theorem dX5_order_21 : decode cX5_order 21 = .ok (.invokevirtual 321, 3) := by decide +kernel
theorem dX5_order_24 : decode cX5_order 24 = .ok (.ifCond .eq 4, 3) := by decide +kernel
theorem dX5_order_27 : decode cX5_order 27 = .ok (.return_, 1) := by decide +kernel
theorem dX5_order_28 : decode cX5_order 28 = .ok (.aload_n 0, 1) := by decide +kernel
theorem dX5_order_29 : decode cX5_order 29 = .ok (.iload_n 1, 1) := by decide +kernel
theorem dX5_order_30 : decode cX5_order 30 = .ok (.putfield 403, 3) := by decide +kernel
theorem dX5_order_33 : decode cX5_order 33 = .ok (.return_, 1) := by decide +kernel
theorem dX5_blanks_0 : decode cX5_blanks 0 = .ok (.aload_n 0, 1) := by decide +kernel
theorem dX5_blanks_1 : decode cX5_blanks 1 = .ok (.iconst 0, 1) := by decide +kernel
theorem dX5_blanks_2 : decode cX5_blanks 2 = .ok (.putfield 178, 3) := by decide +kernel
theorem dX5_blanks_5 : decode cX5_blanks 5 = .ok (.aload_n 0, 1) := by decide +kernel
theorem dX5_blanks_6 : decode cX5_blanks 6 = .ok (.iload_n 1, 1) := by decide +kernel
theorem dX5_blanks_7 : decode cX5_blanks 7 = .ok (.iconst 0, 1) := by decide +kernel
theorem dX5_blanks_8 : decode cX5_blanks 8 = .ok (.sipush 1000, 3) := by decide +kernel
theorem dX5_blanks_11 : decode cX5_blanks 11 = .ok (.invokestatic 317, 3) := by decide +kernel
theorem dX5_blanks_14 : decode cX5_blanks 14 = .ok (.ifCond .eq 15, 3) := by decide +kernel
theorem dX5_blanks_17 : decode cX5_blanks 17 = .ok (.aload_n 0, 1) := by decide +kernel
theorem dX5_blanks_18 : decode cX5_blanks 18 = .ok (.getfield 406, 3) := by decide +kernel
theorem dX5_blanks_21 : decode cX5_blanks 21 = .ok (.iload_n 1, 1) := by decide +kernel
theorem dX5_blanks_22 : decode cX5_blanks 22 = .ok (.iadd, 1) := by decide +kernel
theorem dX5_blanks_23 : decode cX5_blanks 23 = .ok (.sipush 10000, 3) := by decide +kernel
theorem dX5_blanks_26 : decode cX5_blanks 26 = .ok (.if_icmp .le 7, 3) := by decide +kernel
theorem dX5_blanks_29 : decode cX5_blanks 29 = .ok (.iconst 1, 1) := by decide +kernel
theorem dX5_blanks_30 : decode cX5_blanks 30 = .ok (.goto 4, 3) := by decide +kernel
theorem dX5_blanks_33 : decode cX5_blanks 33 = .ok (.iconst 0, 1) := by decide +kernel
theorem dX5_blanks_34 : decode cX5_blanks 34 = .ok (.iconst 1, 1) := by decide +kernel
theorem dX5_blanks_35 : decode cX5_blanks 35 = .ok (.invokevirtual 321, 3) := by decide +kernel
theorem dX5_blanks_38 : decode cX5_blanks 38 = .ok (.ifCond .eq 5, 3) := by decide +kernel
theorem dX5_blanks_41 : decode cX5_blanks 41 = .ok (.iconst 0, 1) := by decide +kernel
theorem dX5_blanks_42 : decode cX5_blanks 42 = .ok (.ireturn, 1) := by decide +kernel
theorem dX5_blanks_43 : decode cX5_blanks 43 = .ok (.aload_n 0, 1) := by decide +kernel
theorem dX5_blanks_44 : decode cX5_blanks 44 = .ok (.dup, 1) := by decide +kernel
theorem dX5_blanks_45 : decode cX5_blanks 45 = .ok (.getfield 406, 3) := by decide +kernel
theorem dX5_blanks_48 : decode cX5_blanks 48 = .ok (.iload_n 1, 1) := by decide +kernel
theorem dX5_blanks_49 : decode cX5_blanks 49 = .ok (.iadd, 1) := by decide +kernel
theorem dX5_blanks_50 : decode cX5_blanks 50 = .ok (.putfield 406, 3) := by decide +kernel
theorem dX5_blanks_53 : decode cX5_blanks 53 = .ok (.aload_n 0, 1) := by decide +kernel
theorem dX5_blanks_54 : decode cX5_blanks 54 = .ok (.getfield 406, 3) := by decide +kernel
theorem dX5_blanks_57 : decode cX5_blanks 57 = .ok (.ireturn, 1) := by decide +kernel
theorem dX5_broken_0 : decode cX5_broken 0 = .ok (.aload_n 0, 1) := by decide +kernel
theorem dX5_broken_1 : decode cX5_broken 1 = .ok (.iconst 0, 1) := by decide +kernel
theorem dX5_broken_2 : decode cX5_broken 2 = .ok (.putfield 178, 3) := by decide +kernel
theorem dX5_broken_5 : decode cX5_broken 5 = .ok (.aload_n 0, 1) := by decide +kernel
theorem dX5_broken_6 : decode cX5_broken 6 = .ok (.iload_n 1, 1) := by decide +kernel
theorem dX5_broken_7 : decode cX5_broken 7 = .ok (.iload_n 2, 1) := by decide +kernel
theorem dX5_broken_8 : decode cX5_broken 8 = .ok (.if_icmp .le 7, 3) := by decide +kernel
theorem dX5_broken_11 : decode cX5_broken 11 = .ok (.iconst 1, 1) := by decide +kernel
theorem dX5_broken_12 : decode cX5_broken 12 = .ok (.goto 4, 3) := by decide +kernel
theorem dX5_broken_15 : decode cX5_broken 15 = .ok (.iconst 0, 1) := by decide +kernel
theorem dX5_broken_16 : decode cX5_broken 16 = .ok (.iconst 1, 1) := by decide +kernel
theorem dX5_broken_17 : decode cX5_broken 17 = .ok (.invokevirtual 321, 3) := by decide +kernel
theorem dX5_broken_20 : decode cX5_broken 20 = .ok (.ifCond .eq 4, 3) := by decide +kernel
theorem dX5_broken_23 : decode cX5_broken 23 = .ok (.return_, 1) := by decide +kernel
theorem dX5_broken_24 : decode cX5_broken 24 = .ok (.aload_n 0, 1) := by decide +kernel
theorem dX5_broken_25 : decode cX5_broken 25 = .ok (.iload_n 1, 1) := by decide +kernel
theorem dX5_broken_26 : decode cX5_broken 26 = .ok (.putfield 91, 3) := by decide +kernel
theorem dX5_broken_29 : decode cX5_broken 29 = .ok (.aload_n 0, 1) := by decide +kernel
theorem dX5_broken_30 : decode cX5_broken 30 = .ok (.iload_n 2, 1) := by decide +kernel
theorem dX5_broken_31 : decode cX5_broken 31 = .ok (.putfield 409, 3) := by decide +kernel
theorem dX5_broken_34 : decode cX5_broken 34 = .ok (.return_, 1) := by decide +kernel
theorem dX5_judge_0 : decode cX5_judge 0 = .ok (.aload_n 0, 1) := by decide +kernel
theorem dX5_judge_1 : decode cX5_judge 1 = .ok (.iconst 0, 1) := by decide +kernel
theorem dX5_judge_2 : decode cX5_judge 2 = .ok (.putfield 178, 3) := by decide +kernel
theorem dX5_judge_5 : decode cX5_judge 5 = .ok (.aload_n 0, 1) := by decide +kernel
theorem dX5_judge_6 : decode cX5_judge 6 = .ok (.aload_n 0, 1) := by decide +kernel
theorem dX5_judge_7 : decode cX5_judge 7 = .ok (.iload_n 1, 1) := by decide +kernel
theorem dX5_judge_8 : decode cX5_judge 8 = .ok (.invokevirtual 385, 3) := by decide +kernel
theorem dX5_judge_11 : decode cX5_judge 11 = .ok (.iconst 1, 1) := by decide +kernel
theorem dX5_judge_12 : decode cX5_judge 12 = .ok (.invokevirtual 321, 3) := by decide +kernel
theorem dX5_judge_15 : decode cX5_judge 15 = .ok (.ifCond .ne 40, 3) := by decide +kernel
theorem dX5_judge_18 : decode cX5_judge 18 = .ok (.aload_n 0, 1) := by decide +kernel
theorem dX5_judge_19 : decode cX5_judge 19 = .ok (.aload_n 0, 1) := by decide +kernel
theorem dX5_judge_20 : decode cX5_judge 20 = .ok (.iload_n 2, 1) := by decide +kernel
theorem dX5_judge_21 : decode cX5_judge 21 = .ok (.iload_n 3, 1) := by decide +kernel
theorem dX5_judge_22 : decode cX5_judge 22 = .ok (.invokevirtual 418, 3) := by decide +kernel
theorem dX5_judge_25 : decode cX5_judge 25 = .ok (.iconst 2, 1) := by decide +kernel
theorem dX5_judge_26 : decode cX5_judge 26 = .ok (.invokevirtual 321, 3) := by decide +kernel
theorem dX5_judge_29 : decode cX5_judge 29 = .ok (.ifCond .ne 26, 3) := by decide +kernel
theorem dX5_judge_32 : decode cX5_judge 32 = .ok (.aload_n 0, 1) := by decide +kernel
theorem dX5_judge_33 : decode cX5_judge 33 = .ok (.iload 5, 2) := by decide +kernel
theorem dX5_judge_35 : decode cX5_judge 35 = .ok (.iconst 0, 1) := by decide +kernel
theorem dX5_judge_36 : decode cX5_judge 36 = .ok (.iconst 5, 1) := by decide +kernel
theorem dX5_judge_37 : decode cX5_judge 37 = .ok (.invokestatic 317, 3) := by decide +kernel
theorem dX5_judge_40 : decode cX5_judge 40 = .ok (.ifCond .ne 7, 3) := by decide +kernel
theorem dX5_judge_43 : decode cX5_judge 43 = .ok (.iconst 1, 1) := by decide +kernel
theorem dX5_judge_44 : decode cX5_judge 44 = .ok (.goto 4, 3) := by decide +kernel
theorem dX5_judge_47 : decode cX5_judge 47 = .ok (.iconst 0, 1) := by decide +kernel
theorem dX5_judge_48 : decode cX5_judge 48 = .ok (.iconst 3, 1) := by decide +kernel
theorem dX5_judge_49 : decode cX5_judge 49 = .ok (.invokevirtual 321, 3) := by decide +kernel
theorem dX5_judge_52 : decode cX5_judge 52 = .ok (.ifCond .eq 5, 3) := by decide +kernel
theorem dX5_judge_55 : decode cX5_judge 55 = .ok (.iconst 0, 1) := by decide +kernel
theorem dX5_judge_56 : decode cX5_judge 56 = .ok (.ireturn, 1) := by decide +kernel
theorem dX5_judge_57 : decode cX5_judge 57 = .ok (.aload_n 0, 1) := by decide +kernel
theorem dX5_judge_58 : decode cX5_judge 58 = .ok (.iload_n 1, 1) := by decide +kernel
theorem dX5_judge_59 : decode cX5_judge 59 = .ok (.iload_n 2, 1) := by decide +kernel
theorem dX5_judge_60 : decode cX5_judge 60 = .ok (.iload_n 3, 1) := by decide +kernel
theorem dX5_judge_61 : decode cX5_judge 61 = .ok (.iload 4, 2) := by decide +kernel
theorem dX5_judge_63 : decode cX5_judge 63 = .ok (.invokevirtual 421, 3) := by decide +kernel
theorem dX5_judge_66 : decode cX5_judge 66 = .ok (.iload 5, 2) := by decide +kernel
theorem dX5_judge_68 : decode cX5_judge 68 = .ok (.tableswitch 69 0 4 #[36, 41, 46, 51, 56], 36) := by decide +kernel
theorem dX5_judge_104 : decode cX5_judge 104 = .ok (.aload_n 0, 1) := by decide +kernel
theorem dX5_judge_105 : decode cX5_judge 105 = .ok (.getfield 340, 3) := by decide +kernel
theorem dX5_judge_108 : decode cX5_judge 108 = .ok (.ireturn, 1) := by decide +kernel
theorem dX5_judge_109 : decode cX5_judge 109 = .ok (.aload_n 0, 1) := by decide +kernel
theorem dX5_judge_110 : decode cX5_judge 110 = .ok (.getfield 343, 3) := by decide +kernel
theorem dX5_judge_113 : decode cX5_judge 113 = .ok (.ireturn, 1) := by decide +kernel
theorem dX5_judge_114 : decode cX5_judge 114 = .ok (.aload_n 0, 1) := by decide +kernel
theorem dX5_judge_115 : decode cX5_judge 115 = .ok (.getfield 346, 3) := by decide +kernel
theorem dX5_judge_118 : decode cX5_judge 118 = .ok (.ireturn, 1) := by decide +kernel
theorem dX5_judge_119 : decode cX5_judge 119 = .ok (.aload_n 0, 1) := by decide +kernel
theorem dX5_judge_120 : decode cX5_judge 120 = .ok (.getfield 349, 3) := by decide +kernel
theorem dX5_judge_123 : decode cX5_judge 123 = .ok (.ireturn, 1) := by decide +kernel
theorem dX5_judge_124 : decode cX5_judge 124 = .ok (.aload_n 0, 1) := by decide +kernel
theorem dX5_judge_125 : decode cX5_judge 125 = .ok (.getfield 355, 3) := by decide +kernel
theorem dX5_judge_128 : decode cX5_judge 128 = .ok (.ifCond .eq 7, 3) := by decide +kernel
theorem dX5_judge_131 : decode cX5_judge 131 = .ok (.iconst 1, 1) := by decide +kernel
theorem dX5_judge_132 : decode cX5_judge 132 = .ok (.goto 4, 3) := by decide +kernel
theorem dX5_judge_135 : decode cX5_judge 135 = .ok (.iconst 0, 1) := by decide +kernel
theorem dX5_judge_136 : decode cX5_judge 136 = .ok (.ireturn, 1) := by decide +kernel
theorem dX5_judge_137 : decode cX5_judge 137 = .ok (.aload_n 0, 1) := by decide +kernel
theorem dX5_judge_138 : decode cX5_judge 138 = .ok (.getfield 352, 3) := by decide +kernel
theorem dX5_judge_141 : decode cX5_judge 141 = .ok (.ireturn, 1) := by decide +kernel
theorem dX5_noAsk_0 : decode cX5_noAsk 0 = .ok (.iload_n 1, 1) := by decide +kernel
theorem dX5_noAsk_1 : decode cX5_noAsk 1 = .ok (.iconst 0, 1) := by decide +kernel
theorem dX5_noAsk_2 : decode cX5_noAsk 2 = .ok (.iconst 3, 1) := by decide +kernel
theorem dX5_noAsk_3 : decode cX5_noAsk 3 = .ok (.invokestatic 317, 3) := by decide +kernel
theorem dX5_noAsk_6 : decode cX5_noAsk 6 = .ok (.ifCond .eq 17, 3) := by decide +kernel
theorem dX5_noAsk_9 : decode cX5_noAsk 9 = .ok (.iload_n 2, 1) := by decide +kernel
theorem dX5_noAsk_10 : decode cX5_noAsk 10 = .ok (.aload_n 0, 1) := by decide +kernel
theorem dX5_noAsk_11 : decode cX5_noAsk 11 = .ok (.getfield 314, 3) := by decide +kernel
theorem dX5_noAsk_14 : decode cX5_noAsk 14 = .ok (.sipush 1000, 3) := by decide +kernel
theorem dX5_noAsk_17 : decode cX5_noAsk 17 = .ok (.invokestatic 317, 3) := by decide +kernel
theorem dX5_noAsk_20 : decode cX5_noAsk 20 = .ok (.ifCond .ne 7, 3) := by decide +kernel
theorem dX5_noAsk_23 : decode cX5_noAsk 23 = .ok (.iconst 1, 1) := by decide +kernel
theorem dX5_noAsk_24 : decode cX5_noAsk 24 = .ok (.goto 4, 3) := by decide +kernel
theorem dX5_noAsk_27 : decode cX5_noAsk 27 = .ok (.iconst 0, 1) := by decide +kernel
theorem dX5_noAsk_28 : decode cX5_noAsk 28 = .ok (.ireturn, 1) := by decide +kernel
theorem dX5_judges_0 : decode cX5_judges 0 = .ok (.aload_n 0, 1) := by decide +kernel
theorem dX5_judges_1 : decode cX5_judges 1 = .ok (.getfield 48, 3) := by decide +kernel
theorem dX5_judges_4 : decode cX5_judges 4 = .ok (.iconst 0, 1) := by decide +kernel
theorem dX5_judges_5 : decode cX5_judges 5 = .ok (.aload_n 0, 1) := by decide +kernel
theorem dX5_judges_6 : decode cX5_judges 6 = .ok (.getfield 314, 3) := by decide +kernel
theorem dX5_judges_9 : decode cX5_judges 9 = .ok (.aload_n 0, 1) := by decide +kernel
theorem dX5_judges_10 : decode cX5_judges 10 = .ok (.getfield 55, 3) := by decide +kernel
theorem dX5_judges_13 : decode cX5_judges 13 = .ok (.iload_n 1, 1) := by decide +kernel
theorem dX5_judges_14 : decode cX5_judges 14 = .ok (.iaload, 1) := by decide +kernel
theorem dX5_judges_15 : decode cX5_judges 15 = .ok (.isub, 1) := by decide +kernel
theorem dX5_judges_16 : decode cX5_judges 16 = .ok (.sipush 365, 3) := by decide +kernel
theorem dX5_judges_19 : decode cX5_judges 19 = .ok (.invokestatic 331, 3) := by decide +kernel
theorem dX5_judges_22 : decode cX5_judges 22 = .ok (.iastore, 1) := by decide +kernel
theorem dX5_judges_23 : decode cX5_judges 23 = .ok (.aload_n 0, 1) := by decide +kernel
theorem dX5_judges_24 : decode cX5_judges 24 = .ok (.getfield 48, 3) := by decide +kernel
theorem dX5_judges_27 : decode cX5_judges 27 = .ok (.iconst 1, 1) := by decide +kernel
theorem dX5_judges_28 : decode cX5_judges 28 = .ok (.iload_n 3, 1) := by decide +kernel
theorem dX5_judges_29 : decode cX5_judges 29 = .ok (.aload_n 0, 1) := by decide +kernel
theorem dX5_judges_30 : decode cX5_judges 30 = .ok (.getfield 314, 3) := by decide +kernel
theorem dX5_judges_33 : decode cX5_judges 33 = .ok (.isub, 1) := by decide +kernel
theorem dX5_judges_34 : decode cX5_judges 34 = .ok (.iastore, 1) := by decide +kernel
theorem dX5_judges_35 : decode cX5_judges 35 = .ok (.aload_n 0, 1) := by decide +kernel
theorem dX5_judges_36 : decode cX5_judges 36 = .ok (.getfield 48, 3) := by decide +kernel
theorem dX5_judges_39 : decode cX5_judges 39 = .ok (.iconst 2, 1) := by decide +kernel
theorem dX5_judges_40 : decode cX5_judges 40 = .ok (.aload_n 0, 1) := by decide +kernel
theorem dX5_judges_41 : decode cX5_judges 41 = .ok (.iload_n 1, 1) := by decide +kernel
theorem dX5_judges_42 : decode cX5_judges 42 = .ok (.aload_n 0, 1) := by decide +kernel
theorem dX5_judges_43 : decode cX5_judges 43 = .ok (.getfield 314, 3) := by decide +kernel
theorem dX5_judges_46 : decode cX5_judges 46 = .ok (.invokevirtual 337, 3) := by decide +kernel
theorem dX5_judges_49 : decode cX5_judges 49 = .ok (.iastore, 1) := by decide +kernel
theorem dX5_judges_50 : decode cX5_judges 50 = .ok (.aload_n 0, 1) := by decide +kernel
theorem dX5_judges_51 : decode cX5_judges 51 = .ok (.getfield 48, 3) := by decide +kernel
theorem dX5_judges_54 : decode cX5_judges 54 = .ok (.iconst 3, 1) := by decide +kernel
theorem dX5_judges_55 : decode cX5_judges 55 = .ok (.aload_n 0, 1) := by decide +kernel
theorem dX5_judges_56 : decode cX5_judges 56 = .ok (.getfield 58, 3) := by decide +kernel
theorem dX5_judges_59 : decode cX5_judges 59 = .ok (.iload_n 1, 1) := by decide +kernel
theorem dX5_judges_60 : decode cX5_judges 60 = .ok (.baload, 1) := by decide +kernel
theorem dX5_judges_61 : decode cX5_judges 61 = .ok (.ifCond .eq 7, 3) := by decide +kernel
theorem dX5_judges_64 : decode cX5_judges 64 = .ok (.iconst 1, 1) := by decide +kernel
theorem dX5_judges_65 : decode cX5_judges 65 = .ok (.goto 4, 3) := by decide +kernel
theorem dX5_judges_68 : decode cX5_judges 68 = .ok (.iconst 0, 1) := by decide +kernel
theorem dX5_judges_69 : decode cX5_judges 69 = .ok (.iastore, 1) := by decide +kernel
theorem dX5_judges_70 : decode cX5_judges 70 = .ok (.iconst 0, 1) := by decide +kernel
theorem dX5_judges_71 : decode cX5_judges 71 = .ok (.istore 5, 2) := by decide +kernel
theorem dX5_judges_73 : decode cX5_judges 73 = .ok (.iload 5, 2) := by decide +kernel
theorem dX5_judges_75 : decode cX5_judges 75 = .ok (.iconst 4, 1) := by decide +kernel
theorem dX5_judges_76 : decode cX5_judges 76 = .ok (.if_icmp .ge 29, 3) := by decide +kernel
theorem dX5_judges_79 : decode cX5_judges 79 = .ok (.aload_n 0, 1) := by decide +kernel
theorem dX5_judges_80 : decode cX5_judges 80 = .ok (.getfield 48, 3) := by decide +kernel
theorem dX5_judges_83 : decode cX5_judges 83 = .ok (.iconst 4, 1) := by decide +kernel
theorem dX5_judges_84 : decode cX5_judges 84 = .ok (.iload 5, 2) := by decide +kernel
theorem dX5_judges_86 : decode cX5_judges 86 = .ok (.iadd, 1) := by decide +kernel
theorem dX5_judges_87 : decode cX5_judges 87 = .ok (.iload_n 2, 1) := by decide +kernel
theorem dX5_judges_88 : decode cX5_judges 88 = .ok (.iload 5, 2) := by decide +kernel
theorem dX5_judges_90 : decode cX5_judges 90 = .ok (.if_icmp .ne 7, 3) := by decide +kernel
theorem dX5_judges_93 : decode cX5_judges 93 = .ok (.iconst 1, 1) := by decide +kernel
theorem dX5_judges_94 : decode cX5_judges 94 = .ok (.goto 4, 3) := by decide +kernel
theorem dX5_judges_97 : decode cX5_judges 97 = .ok (.iconst 0, 1) := by decide +kernel
theorem dX5_judges_98 : decode cX5_judges 98 = .ok (.iastore, 1) := by decide +kernel
theorem dX5_judges_99 : decode cX5_judges 99 = .ok (.iinc 5 1, 3) := by decide +kernel
theorem dX5_judges_102 : decode cX5_judges 102 = .ok (.goto (-29), 3) := by decide +kernel
theorem dX5_judges_105 : decode cX5_judges 105 = .ok (.aload_n 0, 1) := by decide +kernel
theorem dX5_judges_106 : decode cX5_judges 106 = .ok (.getfield 48, 3) := by decide +kernel
theorem dX5_judges_109 : decode cX5_judges 109 = .ok (.bipush 8, 2) := by decide +kernel
theorem dX5_judges_111 : decode cX5_judges 111 = .ok (.iload 4, 2) := by decide +kernel
theorem dX5_judges_113 : decode cX5_judges 113 = .ok (.ifCond .eq 7, 3) := by decide +kernel
theorem dX5_judges_116 : decode cX5_judges 116 = .ok (.iconst 1, 1) := by decide +kernel
theorem dX5_judges_117 : decode cX5_judges 117 = .ok (.goto 4, 3) := by decide +kernel
theorem dX5_judges_120 : decode cX5_judges 120 = .ok (.iconst 0, 1) := by decide +kernel
theorem dX5_judges_121 : decode cX5_judges 121 = .ok (.iastore, 1) := by decide +kernel
theorem dX5_judges_122 : decode cX5_judges 122 = .ok (.aload_n 0, 1) := by decide +kernel
theorem dX5_judges_123 : decode cX5_judges 123 = .ok (.iconst 0, 1) := by decide +kernel
theorem dX5_judges_124 : decode cX5_judges 124 = .ok (.putfield 340, 3) := by decide +kernel
theorem dX5_judges_127 : decode cX5_judges 127 = .ok (.aload_n 0, 1) := by decide +kernel
theorem dX5_judges_128 : decode cX5_judges 128 = .ok (.iconst 0, 1) := by decide +kernel
theorem dX5_judges_129 : decode cX5_judges 129 = .ok (.putfield 343, 3) := by decide +kernel
theorem dX5_judges_132 : decode cX5_judges 132 = .ok (.aload_n 0, 1) := by decide +kernel
theorem dX5_judges_133 : decode cX5_judges 133 = .ok (.iconst (-1), 1) := by decide +kernel
theorem dX5_judges_134 : decode cX5_judges 134 = .ok (.putfield 346, 3) := by decide +kernel
theorem dX5_judges_137 : decode cX5_judges 137 = .ok (.aload_n 0, 1) := by decide +kernel
theorem dX5_judges_138 : decode cX5_judges 138 = .ok (.iconst 0, 1) := by decide +kernel
theorem dX5_judges_139 : decode cX5_judges 139 = .ok (.putfield 349, 3) := by decide +kernel
theorem dX5_judges_142 : decode cX5_judges 142 = .ok (.aload_n 0, 1) := by decide +kernel
theorem dX5_judges_143 : decode cX5_judges 143 = .ok (.iconst (-1), 1) := by decide +kernel
theorem dX5_judges_144 : decode cX5_judges 144 = .ok (.putfield 352, 3) := by decide +kernel
theorem dX5_judges_147 : decode cX5_judges 147 = .ok (.aload_n 0, 1) := by decide +kernel
theorem dX5_judges_148 : decode cX5_judges 148 = .ok (.iconst 0, 1) := by decide +kernel
theorem dX5_judges_149 : decode cX5_judges 149 = .ok (.putfield 355, 3) := by decide +kernel
theorem dX5_judges_152 : decode cX5_judges 152 = .ok (.aload_n 0, 1) := by decide +kernel
theorem dX5_judges_153 : decode cX5_judges 153 = .ok (.aload_n 0, 1) := by decide +kernel
theorem dX5_judges_154 : decode cX5_judges 154 = .ok (.getfield 314, 3) := by decide +kernel
theorem dX5_judges_157 : decode cX5_judges 157 = .ok (.invokevirtual 359, 3) := by decide +kernel
theorem dX5_judges_160 : decode cX5_judges 160 = .ok (.istore 5, 2) := by decide +kernel
theorem dX5_judges_162 : decode cX5_judges 162 = .ok (.iconst 0, 1) := by decide +kernel
theorem dX5_judges_163 : decode cX5_judges 163 = .ok (.istore 6, 2) := by decide +kernel
theorem dX5_judges_165 : decode cX5_judges 165 = .ok (.iload 5, 2) := by decide +kernel
theorem dX5_judges_167 : decode cX5_judges 167 = .ok (.ifCond .lt 220, 3) := by decide +kernel
theorem dX5_judges_170 : decode cX5_judges 170 = .ok (.iload 6, 2) := by decide +kernel
theorem dX5_judges_172 : decode cX5_judges 172 = .ok (.aload_n 0, 1) := by decide +kernel
theorem dX5_judges_173 : decode cX5_judges 173 = .ok (.getfield 24, 3) := by decide +kernel
theorem dX5_judges_176 : decode cX5_judges 176 = .ok (.iload 5, 2) := by decide +kernel
theorem dX5_judges_178 : decode cX5_judges 178 = .ok (.iaload, 1) := by decide +kernel
theorem dX5_judges_179 : decode cX5_judges 179 = .ok (.if_icmp .ge 208, 3) := by decide +kernel
theorem dX5_judges_182 : decode cX5_judges 182 = .ok (.bipush 16, 2) := by decide +kernel
theorem dX5_judges_184 : decode cX5_judges 184 = .ok (.iload 5, 2) := by decide +kernel
theorem dX5_judges_186 : decode cX5_judges 186 = .ok (.imul, 1) := by decide +kernel
theorem dX5_judges_187 : decode cX5_judges 187 = .ok (.iload 6, 2) := by decide +kernel
theorem dX5_judges_189 : decode cX5_judges 189 = .ok (.iadd, 1) := by decide +kernel
theorem dX5_judges_190 : decode cX5_judges 190 = .ok (.istore 7, 2) := by decide +kernel
theorem dX5_judges_192 : decode cX5_judges 192 = .ok (.aload_n 0, 1) := by decide +kernel
theorem dX5_judges_193 : decode cX5_judges 193 = .ok (.iload 5, 2) := by decide +kernel
theorem dX5_judges_195 : decode cX5_judges 195 = .ok (.aload_n 0, 1) := by decide +kernel
theorem dX5_judges_196 : decode cX5_judges 196 = .ok (.getfield 33, 3) := by decide +kernel
theorem dX5_judges_199 : decode cX5_judges 199 = .ok (.iload 7, 2) := by decide +kernel
theorem dX5_judges_201 : decode cX5_judges 201 = .ok (.iaload, 1) := by decide +kernel
theorem dX5_judges_202 : decode cX5_judges 202 = .ok (.aload_n 0, 1) := by decide +kernel
theorem dX5_judges_203 : decode cX5_judges 203 = .ok (.getfield 36, 3) := by decide +kernel
theorem dX5_judges_206 : decode cX5_judges 206 = .ok (.iload 7, 2) := by decide +kernel
theorem dX5_judges_208 : decode cX5_judges 208 = .ok (.iaload, 1) := by decide +kernel
theorem dX5_judges_209 : decode cX5_judges 209 = .ok (.invokevirtual 363, 3) := by decide +kernel
theorem dX5_judges_212 : decode cX5_judges 212 = .ok (.ifCond .ne 6, 3) := by decide +kernel
theorem dX5_judges_215 : decode cX5_judges 215 = .ok (.goto 166, 3) := by decide +kernel
theorem dX5_judges_218 : decode cX5_judges 218 = .ok (.aload_n 0, 1) := by decide +kernel
theorem dX5_judges_219 : decode cX5_judges 219 = .ok (.getfield 27, 3) := by decide +kernel
theorem dX5_judges_222 : decode cX5_judges 222 = .ok (.iload 7, 2) := by decide +kernel
theorem dX5_judges_224 : decode cX5_judges 224 = .ok (.iaload, 1) := by decide +kernel
theorem dX5_judges_225 : decode cX5_judges 225 = .ok (.tableswitch 121 0 4 #[35, 54, 73, 94, 113], 35) := by decide +kernel
theorem dX5_judges_260 : decode cX5_judges 260 = .ok (.aload_n 0, 1) := by decide +kernel
theorem dX5_judges_261 : decode cX5_judges 261 = .ok (.dup, 1) := by decide +kernel
theorem dX5_judges_262 : decode cX5_judges 262 = .ok (.getfield 340, 3) := by decide +kernel
theorem dX5_judges_265 : decode cX5_judges 265 = .ok (.aload_n 0, 1) := by decide +kernel
theorem dX5_judges_266 : decode cX5_judges 266 = .ok (.getfield 30, 3) := by decide +kernel
theorem dX5_judges_269 : decode cX5_judges 269 = .ok (.iload 7, 2) := by decide +kernel
theorem dX5_judges_271 : decode cX5_judges 271 = .ok (.iaload, 1) := by decide +kernel
theorem dX5_judges_272 : decode cX5_judges 272 = .ok (.ior, 1) := by decide +kernel
theorem dX5_judges_273 : decode cX5_judges 273 = .ok (.putfield 340, 3) := by decide +kernel
theorem dX5_judges_276 : decode cX5_judges 276 = .ok (.goto 105, 3) := by decide +kernel
theorem dX5_judges_279 : decode cX5_judges 279 = .ok (.aload_n 0, 1) := by decide +kernel
theorem dX5_judges_280 : decode cX5_judges 280 = .ok (.dup, 1) := by decide +kernel
theorem dX5_judges_281 : decode cX5_judges 281 = .ok (.getfield 343, 3) := by decide +kernel
theorem dX5_judges_284 : decode cX5_judges 284 = .ok (.aload_n 0, 1) := by decide +kernel
theorem dX5_judges_285 : decode cX5_judges 285 = .ok (.getfield 30, 3) := by decide +kernel
theorem dX5_judges_288 : decode cX5_judges 288 = .ok (.iload 7, 2) := by decide +kernel
theorem dX5_judges_290 : decode cX5_judges 290 = .ok (.iaload, 1) := by decide +kernel
theorem dX5_judges_291 : decode cX5_judges 291 = .ok (.iadd, 1) := by decide +kernel
theorem dX5_judges_292 : decode cX5_judges 292 = .ok (.putfield 343, 3) := by decide +kernel
theorem dX5_judges_295 : decode cX5_judges 295 = .ok (.goto 86, 3) := by decide +kernel
theorem dX5_judges_298 : decode cX5_judges 298 = .ok (.aload_n 0, 1) := by decide +kernel
theorem dX5_judges_299 : decode cX5_judges 299 = .ok (.aload_n 0, 1) := by decide +kernel
theorem dX5_judges_300 : decode cX5_judges 300 = .ok (.getfield 346, 3) := by decide +kernel
theorem dX5_judges_303 : decode cX5_judges 303 = .ok (.aload_n 0, 1) := by decide +kernel
theorem dX5_judges_304 : decode cX5_judges 304 = .ok (.getfield 30, 3) := by decide +kernel
theorem dX5_judges_307 : decode cX5_judges 307 = .ok (.iload 7, 2) := by decide +kernel
theorem dX5_judges_309 : decode cX5_judges 309 = .ok (.iaload, 1) := by decide +kernel
theorem dX5_judges_310 : decode cX5_judges 310 = .ok (.invokestatic 366, 3) := by decide +kernel
theorem dX5_judges_313 : decode cX5_judges 313 = .ok (.putfield 346, 3) := by decide +kernel
theorem dX5_judges_316 : decode cX5_judges 316 = .ok (.goto 65, 3) := by decide +kernel
theorem dX5_judges_319 : decode cX5_judges 319 = .ok (.aload_n 0, 1) := by decide +kernel
theorem dX5_judges_320 : decode cX5_judges 320 = .ok (.dup, 1) := by decide +kernel
theorem dX5_judges_321 : decode cX5_judges 321 = .ok (.getfield 349, 3) := by decide +kernel
theorem dX5_judges_324 : decode cX5_judges 324 = .ok (.aload_n 0, 1) := by decide +kernel
theorem dX5_judges_325 : decode cX5_judges 325 = .ok (.getfield 30, 3) := by decide +kernel
theorem dX5_judges_328 : decode cX5_judges 328 = .ok (.iload 7, 2) := by decide +kernel
theorem dX5_judges_330 : decode cX5_judges 330 = .ok (.iaload, 1) := by decide +kernel
theorem dX5_judges_331 : decode cX5_judges 331 = .ok (.iadd, 1) := by decide +kernel
theorem dX5_judges_332 : decode cX5_judges 332 = .ok (.putfield 349, 3) := by decide +kernel
theorem dX5_judges_335 : decode cX5_judges 335 = .ok (.goto 46, 3) := by decide +kernel
theorem dX5_judges_338 : decode cX5_judges 338 = .ok (.aload_n 0, 1) := by decide +kernel
theorem dX5_judges_339 : decode cX5_judges 339 = .ok (.iconst 1, 1) := by decide +kernel
theorem dX5_judges_340 : decode cX5_judges 340 = .ok (.putfield 355, 3) := by decide +kernel
theorem dX5_judges_343 : decode cX5_judges 343 = .ok (.goto 38, 3) := by decide +kernel
theorem dX5_judges_346 : decode cX5_judges 346 = .ok (.aload_n 0, 1) := by decide +kernel
theorem dX5_judges_347 : decode cX5_judges 347 = .ok (.aload_n 0, 1) := by decide +kernel
theorem dX5_judges_348 : decode cX5_judges 348 = .ok (.getfield 352, 3) := by decide +kernel
theorem dX5_judges_351 : decode cX5_judges 351 = .ok (.ifCond .ge 13, 3) := by decide +kernel
theorem dX5_judges_354 : decode cX5_judges 354 = .ok (.aload_n 0, 1) := by decide +kernel
theorem dX5_judges_355 : decode cX5_judges 355 = .ok (.getfield 30, 3) := by decide +kernel
theorem dX5_judges_358 : decode cX5_judges 358 = .ok (.iload 7, 2) := by decide +kernel
theorem dX5_judges_360 : decode cX5_judges 360 = .ok (.iaload, 1) := by decide +kernel
theorem dX5_judges_361 : decode cX5_judges 361 = .ok (.goto 17, 3) := by decide +kernel
theorem dX5_judges_364 : decode cX5_judges 364 = .ok (.aload_n 0, 1) := by decide +kernel
theorem dX5_judges_365 : decode cX5_judges 365 = .ok (.getfield 352, 3) := by decide +kernel
theorem dX5_judges_368 : decode cX5_judges 368 = .ok (.aload_n 0, 1) := by decide +kernel
theorem dX5_judges_369 : decode cX5_judges 369 = .ok (.getfield 30, 3) := by decide +kernel
theorem dX5_judges_372 : decode cX5_judges 372 = .ok (.iload 7, 2) := by decide +kernel
theorem dX5_judges_374 : decode cX5_judges 374 = .ok (.iaload, 1) := by decide +kernel
theorem dX5_judges_375 : decode cX5_judges 375 = .ok (.invokestatic 369, 3) := by decide +kernel
theorem dX5_judges_378 : decode cX5_judges 378 = .ok (.putfield 352, 3) := by decide +kernel
theorem dX5_judges_381 : decode cX5_judges 381 = .ok (.iinc 6 1, 3) := by decide +kernel
theorem dX5_judges_384 : decode cX5_judges 384 = .ok (.goto (-219), 3) := by decide +kernel
theorem dX5_judges_387 : decode cX5_judges 387 = .ok (.aload_n 0, 1) := by decide +kernel
theorem dX5_judges_388 : decode cX5_judges 388 = .ok (.getfield 346, 3) := by decide +kernel
theorem dX5_judges_391 : decode cX5_judges 391 = .ok (.ifCond .ge 9, 3) := by decide +kernel
theorem dX5_judges_394 : decode cX5_judges 394 = .ok (.aload_n 0, 1) := by decide +kernel
theorem dX5_judges_395 : decode cX5_judges 395 = .ok (.bipush 10, 2) := by decide +kernel
theorem dX5_judges_397 : decode cX5_judges 397 = .ok (.putfield 346, 3) := by decide +kernel
theorem dX5_judges_400 : decode cX5_judges 400 = .ok (.return_, 1) := by decide +kernel
theorem dX5_validOf_0 : decode cX5_validOf 0 = .ok (.iconst 0, 1) := by decide +kernel
theorem dX5_validOf_1 : decode cX5_validOf 1 = .ok (.istore_n 3, 1) := by decide +kernel
theorem dX5_validOf_2 : decode cX5_validOf 2 = .ok (.iconst 0, 1) := by decide +kernel
theorem dX5_validOf_3 : decode cX5_validOf 3 = .ok (.istore 4, 2) := by decide +kernel
theorem dX5_validOf_5 : decode cX5_validOf 5 = .ok (.iload 4, 2) := by decide +kernel
theorem dX5_validOf_7 : decode cX5_validOf 7 = .ok (.aload_n 0, 1) := by decide +kernel
theorem dX5_validOf_8 : decode cX5_validOf 8 = .ok (.getfield 415, 3) := by decide +kernel
theorem dX5_validOf_11 : decode cX5_validOf 11 = .ok (.if_icmp .ge 50, 3) := by decide +kernel
theorem dX5_validOf_14 : decode cX5_validOf 14 = .ok (.iload_n 3, 1) := by decide +kernel
theorem dX5_validOf_15 : decode cX5_validOf 15 = .ok (.aload_n 0, 1) := by decide +kernel
theorem dX5_validOf_16 : decode cX5_validOf 16 = .ok (.getfield 151, 3) := by decide +kernel
theorem dX5_validOf_19 : decode cX5_validOf 19 = .ok (.iload 4, 2) := by decide +kernel
theorem dX5_validOf_21 : decode cX5_validOf 21 = .ok (.iaload, 1) := by decide +kernel
theorem dX5_validOf_22 : decode cX5_validOf 22 = .ok (.iload_n 1, 1) := by decide +kernel
theorem dX5_validOf_23 : decode cX5_validOf 23 = .ok (.if_icmp .ne 29, 3) := by decide +kernel
theorem dX5_validOf_26 : decode cX5_validOf 26 = .ok (.aload_n 0, 1) := by decide +kernel
theorem dX5_validOf_27 : decode cX5_validOf 27 = .ok (.getfield 154, 3) := by decide +kernel
theorem dX5_validOf_30 : decode cX5_validOf 30 = .ok (.iload 4, 2) := by decide +kernel
theorem dX5_validOf_32 : decode cX5_validOf 32 = .ok (.iaload, 1) := by decide +kernel
theorem dX5_validOf_33 : decode cX5_validOf 33 = .ok (.iload_n 2, 1) := by decide +kernel
theorem dX5_validOf_34 : decode cX5_validOf 34 = .ok (.if_icmp .gt 18, 3) := by decide +kernel
theorem dX5_validOf_37 : decode cX5_validOf 37 = .ok (.iload_n 2, 1) := by decide +kernel
theorem dX5_validOf_38 : decode cX5_validOf 38 = .ok (.aload_n 0, 1) := by decide +kernel
theorem dX5_validOf_39 : decode cX5_validOf 39 = .ok (.getfield 157, 3) := by decide +kernel
theorem dX5_validOf_42 : decode cX5_validOf 42 = .ok (.iload 4, 2) := by decide +kernel
theorem dX5_validOf_44 : decode cX5_validOf 44 = .ok (.iaload, 1) := by decide +kernel
theorem dX5_validOf_45 : decode cX5_validOf 45 = .ok (.if_icmp .ge 7, 3) := by decide +kernel
theorem dX5_validOf_48 : decode cX5_validOf 48 = .ok (.iconst 1, 1) := by decide +kernel
theorem dX5_validOf_49 : decode cX5_validOf 49 = .ok (.goto 4, 3) := by decide +kernel
theorem dX5_validOf_52 : decode cX5_validOf 52 = .ok (.iconst 0, 1) := by decide +kernel
theorem dX5_validOf_53 : decode cX5_validOf 53 = .ok (.iadd, 1) := by decide +kernel
theorem dX5_validOf_54 : decode cX5_validOf 54 = .ok (.istore_n 3, 1) := by decide +kernel
theorem dX5_validOf_55 : decode cX5_validOf 55 = .ok (.iinc 4 1, 3) := by decide +kernel
theorem dX5_validOf_58 : decode cX5_validOf 58 = .ok (.goto (-53), 3) := by decide +kernel
theorem dX5_validOf_61 : decode cX5_validOf 61 = .ok (.iload_n 3, 1) := by decide +kernel
theorem dX5_validOf_62 : decode cX5_validOf 62 = .ok (.ireturn, 1) := by decide +kernel
theorem dX5_lawOf_0 : decode cX5_lawOf 0 = .ok (.iconst (-1), 1) := by decide +kernel
theorem dX5_lawOf_1 : decode cX5_lawOf 1 = .ok (.istore_n 2, 1) := by decide +kernel
theorem dX5_lawOf_2 : decode cX5_lawOf 2 = .ok (.iconst 0, 1) := by decide +kernel
theorem dX5_lawOf_3 : decode cX5_lawOf 3 = .ok (.istore_n 3, 1) := by decide +kernel
theorem dX5_lawOf_4 : decode cX5_lawOf 4 = .ok (.iload_n 3, 1) := by decide +kernel
theorem dX5_lawOf_5 : decode cX5_lawOf 5 = .ok (.aload_n 0, 1) := by decide +kernel
theorem dX5_lawOf_6 : decode cX5_lawOf 6 = .ok (.getfield 328, 3) := by decide +kernel
theorem dX5_lawOf_9 : decode cX5_lawOf 9 = .ok (.if_icmp .ge 40, 3) := by decide +kernel
theorem dX5_lawOf_12 : decode cX5_lawOf 12 = .ok (.aload_n 0, 1) := by decide +kernel
theorem dX5_lawOf_13 : decode cX5_lawOf 13 = .ok (.getfield 21, 3) := by decide +kernel
theorem dX5_lawOf_16 : decode cX5_lawOf 16 = .ok (.iload_n 3, 1) := by decide +kernel
theorem dX5_lawOf_17 : decode cX5_lawOf 17 = .ok (.iaload, 1) := by decide +kernel
theorem dX5_lawOf_18 : decode cX5_lawOf 18 = .ok (.iload_n 1, 1) := by decide +kernel
theorem dX5_lawOf_19 : decode cX5_lawOf 19 = .ok (.if_icmp .gt 24, 3) := by decide +kernel
theorem dX5_lawOf_22 : decode cX5_lawOf 22 = .ok (.iload_n 2, 1) := by decide +kernel
theorem dX5_lawOf_23 : decode cX5_lawOf 23 = .ok (.ifCond .lt 18, 3) := by decide +kernel
theorem dX5_lawOf_26 : decode cX5_lawOf 26 = .ok (.aload_n 0, 1) := by decide +kernel
theorem dX5_lawOf_27 : decode cX5_lawOf 27 = .ok (.getfield 21, 3) := by decide +kernel
theorem dX5_lawOf_30 : decode cX5_lawOf 30 = .ok (.iload_n 3, 1) := by decide +kernel
theorem dX5_lawOf_31 : decode cX5_lawOf 31 = .ok (.iaload, 1) := by decide +kernel
theorem dX5_lawOf_32 : decode cX5_lawOf 32 = .ok (.aload_n 0, 1) := by decide +kernel
theorem dX5_lawOf_33 : decode cX5_lawOf 33 = .ok (.getfield 21, 3) := by decide +kernel
theorem dX5_lawOf_36 : decode cX5_lawOf 36 = .ok (.iload_n 2, 1) := by decide +kernel
theorem dX5_lawOf_37 : decode cX5_lawOf 37 = .ok (.iaload, 1) := by decide +kernel
theorem dX5_lawOf_38 : decode cX5_lawOf 38 = .ok (.if_icmp .lt 5, 3) := by decide +kernel
theorem dX5_lawOf_41 : decode cX5_lawOf 41 = .ok (.iload_n 3, 1) := by decide +kernel
theorem dX5_lawOf_42 : decode cX5_lawOf 42 = .ok (.istore_n 2, 1) := by decide +kernel
theorem dX5_lawOf_43 : decode cX5_lawOf 43 = .ok (.iinc 3 1, 3) := by decide +kernel
theorem dX5_lawOf_46 : decode cX5_lawOf 46 = .ok (.goto (-42), 3) := by decide +kernel
theorem dX5_lawOf_49 : decode cX5_lawOf 49 = .ok (.iload_n 2, 1) := by decide +kernel
theorem dX5_lawOf_50 : decode cX5_lawOf 50 = .ok (.ireturn, 1) := by decide +kernel
theorem dX5_holds_0 : decode cX5_holds 0 = .ok (.iconst 0, 1) := by decide +kernel
theorem dX5_holds_1 : decode cX5_holds 1 = .ok (.istore 4, 2) := by decide +kernel
theorem dX5_holds_3 : decode cX5_holds 3 = .ok (.sipush 400, 3) := by decide +kernel
theorem dX5_holds_6 : decode cX5_holds 6 = .ok (.iload_n 1, 1) := by decide +kernel
theorem dX5_holds_7 : decode cX5_holds 7 = .ok (.imul, 1) := by decide +kernel
theorem dX5_holds_8 : decode cX5_holds 8 = .ok (.iload_n 2, 1) := by decide +kernel
theorem dX5_holds_9 : decode cX5_holds 9 = .ok (.iadd, 1) := by decide +kernel
theorem dX5_holds_10 : decode cX5_holds 10 = .ok (.istore 5, 2) := by decide +kernel
theorem dX5_holds_12 : decode cX5_holds 12 = .ok (.iload 5, 2) := by decide +kernel
theorem dX5_holds_14 : decode cX5_holds 14 = .ok (.sipush 400, 3) := by decide +kernel
theorem dX5_holds_17 : decode cX5_holds 17 = .ok (.iload_n 1, 1) := by decide +kernel
theorem dX5_holds_18 : decode cX5_holds 18 = .ok (.imul, 1) := by decide +kernel
theorem dX5_holds_19 : decode cX5_holds 19 = .ok (.iload_n 3, 1) := by decide +kernel
theorem dX5_holds_20 : decode cX5_holds 20 = .ok (.iadd, 1) := by decide +kernel
theorem dX5_holds_21 : decode cX5_holds 21 = .ok (.if_icmp .ge 241, 3) := by decide +kernel
theorem dX5_holds_24 : decode cX5_holds 24 = .ok (.aload_n 0, 1) := by decide +kernel
theorem dX5_holds_25 : decode cX5_holds 25 = .ok (.getfield 39, 3) := by decide +kernel
theorem dX5_holds_28 : decode cX5_holds 28 = .ok (.iload 5, 2) := by decide +kernel
theorem dX5_holds_30 : decode cX5_holds 30 = .ok (.iaload, 1) := by decide +kernel
theorem dX5_holds_31 : decode cX5_holds 31 = .ok (.bipush 100, 2) := by decide +kernel
theorem dX5_holds_33 : decode cX5_holds 33 = .ok (.if_icmp .ne 32, 3) := by decide +kernel
theorem dX5_holds_36 : decode cX5_holds 36 = .ok (.aload_n 0, 1) := by decide +kernel
theorem dX5_holds_37 : decode cX5_holds 37 = .ok (.getfield 51, 3) := by decide +kernel
theorem dX5_holds_40 : decode cX5_holds 40 = .ok (.iload 4, 2) := by decide +kernel
theorem dX5_holds_42 : decode cX5_holds 42 = .ok (.iconst 1, 1) := by decide +kernel
theorem dX5_holds_43 : decode cX5_holds 43 = .ok (.isub, 1) := by decide +kernel
theorem dX5_holds_44 : decode cX5_holds 44 = .ok (.aload_n 0, 1) := by decide +kernel
theorem dX5_holds_45 : decode cX5_holds 45 = .ok (.getfield 51, 3) := by decide +kernel
theorem dX5_holds_48 : decode cX5_holds 48 = .ok (.iload 4, 2) := by decide +kernel
theorem dX5_holds_50 : decode cX5_holds 50 = .ok (.iconst 1, 1) := by decide +kernel
theorem dX5_holds_51 : decode cX5_holds 51 = .ok (.isub, 1) := by decide +kernel
theorem dX5_holds_52 : decode cX5_holds 52 = .ok (.baload, 1) := by decide +kernel
theorem dX5_holds_53 : decode cX5_holds 53 = .ok (.ifCond .ne 7, 3) := by decide +kernel
theorem dX5_holds_56 : decode cX5_holds 56 = .ok (.iconst 1, 1) := by decide +kernel
theorem dX5_holds_57 : decode cX5_holds 57 = .ok (.goto 4, 3) := by decide +kernel
theorem dX5_holds_60 : decode cX5_holds 60 = .ok (.iconst 0, 1) := by decide +kernel
theorem dX5_holds_61 : decode cX5_holds 61 = .ok (.bastore, 1) := by decide +kernel
theorem dX5_holds_62 : decode cX5_holds 62 = .ok (.goto 194, 3) := by decide +kernel
theorem dX5_holds_65 : decode cX5_holds 65 = .ok (.aload_n 0, 1) := by decide +kernel
theorem dX5_holds_66 : decode cX5_holds 66 = .ok (.getfield 39, 3) := by decide +kernel
theorem dX5_holds_69 : decode cX5_holds 69 = .ok (.iload 5, 2) := by decide +kernel
theorem dX5_holds_71 : decode cX5_holds 71 = .ok (.iaload, 1) := by decide +kernel
theorem dX5_holds_72 : decode cX5_holds 72 = .ok (.bipush 101, 2) := by decide +kernel
theorem dX5_holds_74 : decode cX5_holds 74 = .ok (.if_icmp .lt 87, 3) := by decide +kernel
theorem dX5_holds_77 : decode cX5_holds 77 = .ok (.iinc 4 (-1), 3) := by decide +kernel
theorem dX5_holds_80 : decode cX5_holds 80 = .ok (.aload_n 0, 1) := by decide +kernel
theorem dX5_holds_81 : decode cX5_holds 81 = .ok (.getfield 51, 3) := by decide +kernel
theorem dX5_holds_84 : decode cX5_holds 84 = .ok (.iload 4, 2) := by decide +kernel
theorem dX5_holds_86 : decode cX5_holds 86 = .ok (.iconst 1, 1) := by decide +kernel
theorem dX5_holds_87 : decode cX5_holds 87 = .ok (.isub, 1) := by decide +kernel
theorem dX5_holds_88 : decode cX5_holds 88 = .ok (.aload_n 0, 1) := by decide +kernel
theorem dX5_holds_89 : decode cX5_holds 89 = .ok (.getfield 39, 3) := by decide +kernel
theorem dX5_holds_92 : decode cX5_holds 92 = .ok (.iload 5, 2) := by decide +kernel
theorem dX5_holds_94 : decode cX5_holds 94 = .ok (.iaload, 1) := by decide +kernel
theorem dX5_holds_95 : decode cX5_holds 95 = .ok (.bipush 101, 2) := by decide +kernel
theorem dX5_holds_97 : decode cX5_holds 97 = .ok (.if_icmp .ne 33, 3) := by decide +kernel
theorem dX5_holds_100 : decode cX5_holds 100 = .ok (.aload_n 0, 1) := by decide +kernel
theorem dX5_holds_101 : decode cX5_holds 101 = .ok (.getfield 51, 3) := by decide +kernel
theorem dX5_holds_104 : decode cX5_holds 104 = .ok (.iload 4, 2) := by decide +kernel
theorem dX5_holds_106 : decode cX5_holds 106 = .ok (.iconst 1, 1) := by decide +kernel
theorem dX5_holds_107 : decode cX5_holds 107 = .ok (.isub, 1) := by decide +kernel
theorem dX5_holds_108 : decode cX5_holds 108 = .ok (.baload, 1) := by decide +kernel
theorem dX5_holds_109 : decode cX5_holds 109 = .ok (.ifCond .eq 17, 3) := by decide +kernel
theorem dX5_holds_112 : decode cX5_holds 112 = .ok (.aload_n 0, 1) := by decide +kernel
theorem dX5_holds_113 : decode cX5_holds 113 = .ok (.getfield 51, 3) := by decide +kernel
theorem dX5_holds_116 : decode cX5_holds 116 = .ok (.iload 4, 2) := by decide +kernel
theorem dX5_holds_118 : decode cX5_holds 118 = .ok (.baload, 1) := by decide +kernel
theorem dX5_holds_119 : decode cX5_holds 119 = .ok (.ifCond .eq 7, 3) := by decide +kernel
theorem dX5_holds_122 : decode cX5_holds 122 = .ok (.iconst 1, 1) := by decide +kernel
theorem dX5_holds_123 : decode cX5_holds 123 = .ok (.goto 34, 3) := by decide +kernel
theorem dX5_holds_126 : decode cX5_holds 126 = .ok (.iconst 0, 1) := by decide +kernel
theorem dX5_holds_127 : decode cX5_holds 127 = .ok (.goto 30, 3) := by decide +kernel
theorem dX5_holds_130 : decode cX5_holds 130 = .ok (.aload_n 0, 1) := by decide +kernel
theorem dX5_holds_131 : decode cX5_holds 131 = .ok (.getfield 51, 3) := by decide +kernel
theorem dX5_holds_134 : decode cX5_holds 134 = .ok (.iload 4, 2) := by decide +kernel
theorem dX5_holds_136 : decode cX5_holds 136 = .ok (.iconst 1, 1) := by decide +kernel
theorem dX5_holds_137 : decode cX5_holds 137 = .ok (.isub, 1) := by decide +kernel
theorem dX5_holds_138 : decode cX5_holds 138 = .ok (.baload, 1) := by decide +kernel
theorem dX5_holds_139 : decode cX5_holds 139 = .ok (.ifCond .ne 13, 3) := by decide +kernel
theorem dX5_holds_142 : decode cX5_holds 142 = .ok (.aload_n 0, 1) := by decide +kernel
theorem dX5_holds_143 : decode cX5_holds 143 = .ok (.getfield 51, 3) := by decide +kernel
theorem dX5_holds_146 : decode cX5_holds 146 = .ok (.iload 4, 2) := by decide +kernel
theorem dX5_holds_148 : decode cX5_holds 148 = .ok (.baload, 1) := by decide +kernel
theorem dX5_holds_149 : decode cX5_holds 149 = .ok (.ifCond .eq 7, 3) := by decide +kernel
theorem dX5_holds_152 : decode cX5_holds 152 = .ok (.iconst 1, 1) := by decide +kernel
theorem dX5_holds_153 : decode cX5_holds 153 = .ok (.goto 4, 3) := by decide +kernel
theorem dX5_holds_156 : decode cX5_holds 156 = .ok (.iconst 0, 1) := by decide +kernel
theorem dX5_holds_157 : decode cX5_holds 157 = .ok (.bastore, 1) := by decide +kernel
theorem dX5_holds_158 : decode cX5_holds 158 = .ok (.goto 98, 3) := by decide +kernel
theorem dX5_holds_161 : decode cX5_holds 161 = .ok (.aload_n 0, 1) := by decide +kernel
theorem dX5_holds_162 : decode cX5_holds 162 = .ok (.getfield 48, 3) := by decide +kernel
theorem dX5_holds_165 : decode cX5_holds 165 = .ok (.aload_n 0, 1) := by decide +kernel
theorem dX5_holds_166 : decode cX5_holds 166 = .ok (.getfield 39, 3) := by decide +kernel
theorem dX5_holds_169 : decode cX5_holds 169 = .ok (.iload 5, 2) := by decide +kernel
theorem dX5_holds_171 : decode cX5_holds 171 = .ok (.iaload, 1) := by decide +kernel
theorem dX5_holds_172 : decode cX5_holds 172 = .ok (.iaload, 1) := by decide +kernel
