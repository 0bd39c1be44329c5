/-! method names and decode rows: X2 X3 X4 X6 X7 X8 X9 X10 X11 X12 X13 X14 X15 X16 X17 X0 -/
set_option maxRecDepth 100000
abbrev cX2_init : ByteArray := prog_13_method_1_code
def yX2_init : MethodName := ⟨RX2, "<init>", "()V"⟩
abbrev cX2_law : ByteArray := prog_13_method_7_code
def yX2_law : MethodName := ⟨RX2, "law", "(II)LPassportOffice$Law;"⟩
abbrev cX2_sign : ByteArray := prog_13_method_3_code
def yX2_sign : MethodName := ⟨RX2, "sign", "()I"⟩
abbrev cX2_fail : ByteArray := prog_13_method_2_code
def yX2_fail : MethodName := ⟨RX2, "fail", "(I)V"⟩
abbrev cX2_clause : ByteArray := prog_13_method_8_code
def yX2_clause : MethodName := ⟨RX2, "clause", "()LPassportOffice$Clause;"⟩
abbrev cX2_one : ByteArray := prog_13_method_5_code
def yX2_one : MethodName := ⟨RX2, "one", "([Ljava/lang/String;)I"⟩
abbrev cX2_takes : ByteArray := prog_13_method_4_code
def yX2_takes : MethodName := ⟨RX2, "takes", "(Ljava/lang/String;)Z"⟩
abbrev cX2_number : ByteArray := prog_13_method_6_code
def yX2_number : MethodName := ⟨RX2, "number", "()I"⟩
abbrev cX2_cond : ByteArray := prog_13_method_9_code
def yX2_cond : MethodName := ⟨RX2, "cond", "()LPassportOffice$Cond;"⟩
abbrev cX2_all : ByteArray := prog_13_method_10_code
def yX2_all : MethodName := ⟨RX2, "all", "()LPassportOffice$Cond;"⟩
abbrev cX2_atom : ByteArray := prog_13_method_11_code
def yX2_atom : MethodName := ⟨RX2, "atom", "()LPassportOffice$Cond;"⟩
abbrev cX2_fact : ByteArray := prog_13_method_12_code
def yX2_fact : MethodName := ⟨RX2, "fact", "()LPassportOffice$Cond;"⟩
abbrev cX2_name : ByteArray := prog_13_method_14_code
def yX2_name : MethodName := ⟨RX2, "name", "(I)I"⟩
abbrev cX2_turn : ByteArray := prog_13_method_13_code
def yX2_turn : MethodName := ⟨RX2, "turn", "(I)I"⟩
abbrev cX3_init : ByteArray := prog_16_method_1_code
def yX3_init : MethodName := ⟨RX3, "<init>", "()V"⟩
abbrev cX4_init : ByteArray := prog_15_method_1_code
def yX4_init : MethodName := ⟨RX4, "<init>", "()V"⟩
abbrev cX4_be : ByteArray := prog_15_method_2_code
def yX4_be : MethodName := ⟨RX4, "be", "(LPassportOffice$World;I)V"⟩
abbrev cX6_init : ByteArray := prog_4_method_1_code
def yX6_init : MethodName := ⟨RX6, "<init>", "(IILPassportOffice$Cond;)V"⟩
abbrev cX7_init : ByteArray := prog_5_method_1_code
def yX7_init : MethodName := ⟨RX7, "<init>", "()V"⟩
abbrev cX8_init : ByteArray := prog_6_method_1_code
def yX8_init : MethodName := ⟨RX8, "<init>", "(ICI)V"⟩
abbrev cX8_holds : ByteArray := prog_6_method_2_code
def yX8_holds : MethodName := ⟨RX8, "holds", "([I)Z"⟩
abbrev cX9_init : ByteArray := prog_10_method_1_code
def yX9_init : MethodName := ⟨RX9, "<init>", "(LPassportOffice$Cond;)V"⟩
abbrev cX9_holds : ByteArray := prog_10_method_2_code
def yX9_holds : MethodName := ⟨RX9, "holds", "([I)Z"⟩
abbrev cX10_init : ByteArray := prog_11_method_1_code
def yX10_init : MethodName := ⟨RX10, "<init>", "(LPassportOffice$Cond;LPassportOffice$Cond;Z)V"⟩
abbrev cX10_holds : ByteArray := prog_11_method_2_code
def yX10_holds : MethodName := ⟨RX10, "holds", "([I)Z"⟩
abbrev cX11_init : ByteArray := prog_7_method_1_code
def yX11_init : MethodName := ⟨RX11, "<init>", "(I[LPassportOffice$Clause;I)V"⟩
abbrev cX11_rules : ByteArray := prog_7_method_2_code
def yX11_rules : MethodName := ⟨RX11, "rules", "([I)LPassportOffice$Ruling;"⟩
abbrev cX12_init : ByteArray := prog_12_method_1_code
def yX12_init : MethodName := ⟨RX12, "<init>", "(IZ[I)V"⟩
abbrev cX12_far : ByteArray := prog_12_method_2_code
def yX12_far : MethodName := ⟨RX12, "far", "(LPassportOffice$Person;)I"⟩
abbrev cX13_init : ByteArray := prog_14_method_1_code
def yX13_init : MethodName := ⟨RX13, "<init>", "()V"⟩
abbrev cX14_init : ByteArray := prog_2_method_1_code
def yX14_init : MethodName := ⟨RX14, "<init>", "(IIIIIZLPassportOffice$Ruling;)V"⟩
abbrev cX15_init : ByteArray := prog_9_method_1_code
def yX15_init : MethodName := ⟨RX15, "<init>", "()V"⟩
abbrev cX15_be : ByteArray := prog_9_method_2_code
def yX15_be : MethodName := ⟨RX15, "be", "(LPassportOffice$Move;)V"⟩
abbrev cX16_init : ByteArray := prog_8_method_1_code
def yX16_init : MethodName := ⟨RX16, "<init>", "(IIIII)V"⟩
abbrev cX16_units : ByteArray := prog_8_method_2_code
def yX16_units : MethodName := ⟨RX16, "units", "(I)I"⟩
abbrev cX17_isValid : ByteArray := prog_3_method_2_code
def yX17_isValid : MethodName := ⟨RX17, "isValid", "(I)Z"⟩
abbrev cX17_init : ByteArray := prog_3_method_1_code
def yX17_init : MethodName := ⟨RX17, "<init>", "(IIII)V"⟩
abbrev cX0_law : ByteArray := method_3_code
def yX0_law : MethodName := ⟨RX0, "law", "(LPassportOffice;I[J)I"⟩
abbrev cX0_person : ByteArray := method_4_code
def yX0_person : MethodName := ⟨RX0, "person", "(LPassportOffice;IZIIIII[J)I"⟩
abbrev cX0_name : ByteArray := method_5_code
def yX0_name : MethodName := ⟨RX0, "name", "(LPassportOffice;I[J)I"⟩
abbrev cX0_sign : ByteArray := method_6_code
def yX0_sign : MethodName := ⟨RX0, "sign", "(LPassportOffice;II[J)I"⟩
abbrev cX0_figure : ByteArray := method_7_code
def yX0_figure : MethodName := ⟨RX0, "figure", "(LPassportOffice;I[J)I"⟩
abbrev cX0_far : ByteArray := method_8_code
def yX0_far : MethodName := ⟨RX0, "far", "(LPassportOffice;II[J)I"⟩
abbrev cX0_tell : ByteArray := method_9_code
def yX0_tell : MethodName := ⟨RX0, "tell", "(LPassportOffice;IIZ[J)I"⟩
abbrev cX0_judge : ByteArray := method_10_code
def yX0_judge : MethodName := ⟨RX0, "judge", "(LPassportOffice;IIIZI[J)I"⟩
abbrev cX0_ask : ByteArray := method_11_code
def yX0_ask : MethodName := ⟨RX0, "ask", "(LPassportOffice;IIIIZ[J)I"⟩
abbrev cX0_give : ByteArray := method_12_code
def yX0_give : MethodName := ⟨RX0, "give", "(LPassportOffice;II[J)I"⟩
abbrev cX0_hands : ByteArray := method_13_code
def yX0_hands : MethodName := ⟨RX0, "hands", "(LPassportOffice;II)I"⟩
abbrev cX0_lend : ByteArray := method_14_code
def yX0_lend : MethodName := ⟨RX0, "lend", "(LPassportOffice;IIIII[J)I"⟩
abbrev cX0_units : ByteArray := method_15_code
def yX0_units : MethodName := ⟨RX0, "units", "(LPassportOffice;II[J)I"⟩
abbrev cX0_rules : ByteArray := method_16_code
def yX0_rules : MethodName := ⟨RX0, "rules", "(LPassportOffice;IIIII)I"⟩
abbrev cX0_order : ByteArray := method_17_code
def yX0_order : MethodName := ⟨RX0, "order", "(LPassportOffice;I)I"⟩
abbrev cX0_blanks : ByteArray := method_18_code
def yX0_blanks : MethodName := ⟨RX0, "blanks", "(LPassportOffice;I[J)I"⟩
abbrev cX0_broken : ByteArray := method_19_code
def yX0_broken : MethodName := ⟨RX0, "broken", "(LPassportOffice;II)I"⟩
abbrev cX0_days : ByteArray := method_20_code
def yX0_days : MethodName := ⟨RX0, "days", "(LPassportOffice;I[J)I"⟩
abbrev cX0_refuse : ByteArray := method_21_code
def yX0_refuse : MethodName := ⟨RX0, "refuse", "(LPassportOffice;I)I"⟩
abbrev cX0_lose : ByteArray := method_22_code
def yX0_lose : MethodName := ⟨RX0, "lose", "(LPassportOffice;I)I"⟩
abbrev cX0_again : ByteArray := method_23_code
def yX0_again : MethodName := ⟨RX0, "again", "(LPassportOffice;I)I"⟩
abbrev cX0_led : ByteArray := method_24_code
def yX0_led : MethodName := ⟨RX0, "led", "(LPassportOffice;II[J)I"⟩
abbrev cX0_queue : ByteArray := method_25_code
def yX0_queue : MethodName := ⟨RX0, "queue", "(LPassportOffice;I[J)I"⟩
abbrev cX0_ahead : ByteArray := method_26_code
def yX0_ahead : MethodName := ⟨RX0, "ahead", "(LPassportOffice;I[J)I"⟩
abbrev cX0_booklet : ByteArray := method_27_code
def yX0_booklet : MethodName := ⟨RX0, "booklet", "(LPassportOffice;II[J)I"⟩
abbrev cX0_valid : ByteArray := method_28_code
def yX0_valid : MethodName := ⟨RX0, "valid", "(LPassportOffice;II[J)I"⟩
abbrev cX0_missed : ByteArray := method_29_code
def yX0_missed : MethodName := ⟨RX0, "missed", "(LPassportOffice;II[J)I"⟩
abbrev cX0_waits : ByteArray := method_30_code
def yX0_waits : MethodName := ⟨RX0, "waits", "(LPassportOffice;IZ[J)I"⟩
theorem dX2_init_0 : decode cX2_init 0 = .ok (.aload_n 0, 1) := by decide +kernel
theorem dX2_init_1 : decode cX2_init 1 = .ok (.invokespecial 3, 3) := by decide +kernel
theorem dX2_init_4 : decode cX2_init 4 = .ok (.aload_n 0, 1) := by decide +kernel
theorem dX2_init_5 : decode cX2_init 5 = .ok (.sipush 400, 3) := by decide +kernel
theorem dX2_init_8 : decode cX2_init 8 = .ok (.newarray .byte, 2) := by decide +kernel
theorem dX2_init_10 : decode cX2_init 10 = .ok (.putfield 9, 3) := by decide +kernel
theorem dX2_init_13 : decode cX2_init 13 = .ok (.aload_n 0, 1) := by decide +kernel
theorem dX2_init_14 : decode cX2_init 14 = .ok (.bipush 6, 2) := by decide +kernel
theorem dX2_init_16 : decode cX2_init 16 = .ok (.anewarray 15, 3) := by decide +kernel
theorem dX2_init_19 : decode cX2_init 19 = .ok (.dup, 1) := by decide +kernel
theorem dX2_init_20 : decode cX2_init 20 = .ok (.iconst 0, 1) := by decide +kernel
theorem dX2_init_21 : decode cX2_init 21 = .ok (.ldc 17, 2) := by decide +kernel
theorem dX2_init_23 : decode cX2_init 23 = .ok (.aastore, 1) := by decide +kernel
theorem dX2_init_24 : decode cX2_init 24 = .ok (.dup, 1) := by decide +kernel
theorem dX2_init_25 : decode cX2_init 25 = .ok (.iconst 1, 1) := by decide +kernel
theorem dX2_init_26 : decode cX2_init 26 = .ok (.ldc 19, 2) := by decide +kernel
theorem dX2_init_28 : decode cX2_init 28 = .ok (.aastore, 1) := by decide +kernel
theorem dX2_init_29 : decode cX2_init 29 = .ok (.dup, 1) := by decide +kernel
theorem dX2_init_30 : decode cX2_init 30 = .ok (.iconst 2, 1) := by decide +kernel
theorem dX2_init_31 : decode cX2_init 31 = .ok (.ldc 21, 2) := by decide +kernel
theorem dX2_init_33 : decode cX2_init 33 = .ok (.aastore, 1) := by decide +kernel
theorem dX2_init_34 : decode cX2_init 34 = .ok (.dup, 1) := by decide +kernel
theorem dX2_init_35 : decode cX2_init 35 = .ok (.iconst 3, 1) := by decide +kernel
theorem dX2_init_36 : decode cX2_init 36 = .ok (.ldc 23, 2) := by decide +kernel
theorem dX2_init_38 : decode cX2_init 38 = .ok (.aastore, 1) := by decide +kernel
theorem dX2_init_39 : decode cX2_init 39 = .ok (.dup, 1) := by decide +kernel
theorem dX2_init_40 : decode cX2_init 40 = .ok (.iconst 4, 1) := by decide +kernel
theorem dX2_init_41 : decode cX2_init 41 = .ok (.ldc 25, 2) := by decide +kernel
theorem dX2_init_43 : decode cX2_init 43 = .ok (.aastore, 1) := by decide +kernel
theorem dX2_init_44 : decode cX2_init 44 = .ok (.dup, 1) := by decide +kernel
theorem dX2_init_45 : decode cX2_init 45 = .ok (.iconst 5, 1) := by decide +kernel
theorem dX2_init_46 : decode cX2_init 46 = .ok (.ldc 27, 2) := by decide +kernel
theorem dX2_init_48 : decode cX2_init 48 = .ok (.aastore, 1) := by decide +kernel
theorem dX2_init_49 : decode cX2_init 49 = .ok (.putfield 29, 3) := by decide +kernel
theorem dX2_init_52 : decode cX2_init 52 = .ok (.aload_n 0, 1) := by decide +kernel
theorem dX2_init_53 : decode cX2_init 53 = .ok (.bipush 8, 2) := by decide +kernel
theorem dX2_init_55 : decode cX2_init 55 = .ok (.anewarray 15, 3) := by decide +kernel
theorem dX2_init_58 : decode cX2_init 58 = .ok (.dup, 1) := by decide +kernel
theorem dX2_init_59 : decode cX2_init 59 = .ok (.iconst 0, 1) := by decide +kernel
theorem dX2_init_60 : decode cX2_init 60 = .ok (.ldc 33, 2) := by decide +kernel
theorem dX2_init_62 : decode cX2_init 62 = .ok (.aastore, 1) := by decide +kernel
theorem dX2_init_63 : decode cX2_init 63 = .ok (.dup, 1) := by decide +kernel
theorem dX2_init_64 : decode cX2_init 64 = .ok (.iconst 1, 1) := by decide +kernel
theorem dX2_init_65 : decode cX2_init 65 = .ok (.ldc 35, 2) := by decide +kernel
theorem dX2_init_67 : decode cX2_init 67 = .ok (.aastore, 1) := by decide +kernel
theorem dX2_init_68 : decode cX2_init 68 = .ok (.dup, 1) := by decide +kernel
theorem dX2_init_69 : decode cX2_init 69 = .ok (.iconst 2, 1) := by decide +kernel
theorem dX2_init_70 : decode cX2_init 70 = .ok (.ldc 37, 2) := by decide +kernel
theorem dX2_init_72 : decode cX2_init 72 = .ok (.aastore, 1) := by decide +kernel
theorem dX2_init_73 : decode cX2_init 73 = .ok (.dup, 1) := by decide +kernel
theorem dX2_init_74 : decode cX2_init 74 = .ok (.iconst 3, 1) := by decide +kernel
theorem dX2_init_75 : decode cX2_init 75 = .ok (.ldc 39, 2) := by decide +kernel
theorem dX2_init_77 : decode cX2_init 77 = .ok (.aastore, 1) := by decide +kernel
theorem dX2_init_78 : decode cX2_init 78 = .ok (.dup, 1) := by decide +kernel
theorem dX2_init_79 : decode cX2_init 79 = .ok (.iconst 4, 1) := by decide +kernel
theorem dX2_init_80 : decode cX2_init 80 = .ok (.ldc 41, 2) := by decide +kernel
theorem dX2_init_82 : decode cX2_init 82 = .ok (.aastore, 1) := by decide +kernel
theorem dX2_init_83 : decode cX2_init 83 = .ok (.dup, 1) := by decide +kernel
theorem dX2_init_84 : decode cX2_init 84 = .ok (.iconst 5, 1) := by decide +kernel
theorem dX2_init_85 : decode cX2_init 85 = .ok (.ldc 43, 2) := by decide +kernel
theorem dX2_init_87 : decode cX2_init 87 = .ok (.aastore, 1) := by decide +kernel
theorem dX2_init_88 : decode cX2_init 88 = .ok (.dup, 1) := by decide +kernel
theorem dX2_init_89 : decode cX2_init 89 = .ok (.bipush 6, 2) := by decide +kernel
theorem dX2_init_91 : decode cX2_init 91 = .ok (.ldc 45, 2) := by decide +kernel
theorem dX2_init_93 : decode cX2_init 93 = .ok (.aastore, 1) := by decide +kernel
theorem dX2_init_94 : decode cX2_init 94 = .ok (.dup, 1) := by decide +kernel
theorem dX2_init_95 : decode cX2_init 95 = .ok (.bipush 7, 2) := by decide +kernel
theorem dX2_init_97 : decode cX2_init 97 = .ok (.ldc 47, 2) := by decide +kernel
theorem dX2_init_99 : decode cX2_init 99 = .ok (.aastore, 1) := by decide +kernel
theorem dX2_init_100 : decode cX2_init 100 = .ok (.putfield 49, 3) := by decide +kernel
theorem dX2_init_103 : decode cX2_init 103 = .ok (.aload_n 0, 1) := by decide +kernel
theorem dX2_init_104 : decode cX2_init 104 = .ok (.bipush 9, 2) := by decide +kernel
theorem dX2_init_106 : decode cX2_init 106 = .ok (.anewarray 15, 3) := by decide +kernel
theorem dX2_init_109 : decode cX2_init 109 = .ok (.dup, 1) := by decide +kernel
theorem dX2_init_110 : decode cX2_init 110 = .ok (.iconst 0, 1) := by decide +kernel
theorem dX2_init_111 : decode cX2_init 111 = .ok (.ldc 52, 2) := by decide +kernel
theorem dX2_init_113 : decode cX2_init 113 = .ok (.aastore, 1) := by decide +kernel
theorem dX2_init_114 : decode cX2_init 114 = .ok (.dup, 1) := by decide +kernel
theorem dX2_init_115 : decode cX2_init 115 = .ok (.iconst 1, 1) := by decide +kernel
theorem dX2_init_116 : decode cX2_init 116 = .ok (.ldc 54, 2) := by decide +kernel
theorem dX2_init_118 : decode cX2_init 118 = .ok (.aastore, 1) := by decide +kernel
theorem dX2_init_119 : decode cX2_init 119 = .ok (.dup, 1) := by decide +kernel
theorem dX2_init_120 : decode cX2_init 120 = .ok (.iconst 2, 1) := by decide +kernel
theorem dX2_init_121 : decode cX2_init 121 = .ok (.ldc 56, 2) := by decide +kernel
theorem dX2_init_123 : decode cX2_init 123 = .ok (.aastore, 1) := by decide +kernel
theorem dX2_init_124 : decode cX2_init 124 = .ok (.dup, 1) := by decide +kernel
theorem dX2_init_125 : decode cX2_init 125 = .ok (.iconst 3, 1) := by decide +kernel
theorem dX2_init_126 : decode cX2_init 126 = .ok (.ldc 58, 2) := by decide +kernel
theorem dX2_init_128 : decode cX2_init 128 = .ok (.aastore, 1) := by decide +kernel
theorem dX2_init_129 : decode cX2_init 129 = .ok (.dup, 1) := by decide +kernel
theorem dX2_init_130 : decode cX2_init 130 = .ok (.iconst 4, 1) := by decide +kernel
theorem dX2_init_131 : decode cX2_init 131 = .ok (.ldc 60, 2) := by decide +kernel
theorem dX2_init_133 : decode cX2_init 133 = .ok (.aastore, 1) := by decide +kernel
theorem dX2_init_134 : decode cX2_init 134 = .ok (.dup, 1) := by decide +kernel
theorem dX2_init_135 : decode cX2_init 135 = .ok (.iconst 5, 1) := by decide +kernel
theorem dX2_init_136 : decode cX2_init 136 = .ok (.ldc 62, 2) := by decide +kernel
theorem dX2_init_138 : decode cX2_init 138 = .ok (.aastore, 1) := by decide +kernel
theorem dX2_init_139 : decode cX2_init 139 = .ok (.dup, 1) := by decide +kernel
theorem dX2_init_140 : decode cX2_init 140 = .ok (.bipush 6, 2) := by decide +kernel
theorem dX2_init_142 : decode cX2_init 142 = .ok (.ldc 64, 2) := by decide +kernel
theorem dX2_init_144 : decode cX2_init 144 = .ok (.aastore, 1) := by decide +kernel
theorem dX2_init_145 : decode cX2_init 145 = .ok (.dup, 1) := by decide +kernel
theorem dX2_init_146 : decode cX2_init 146 = .ok (.bipush 7, 2) := by decide +kernel
theorem dX2_init_148 : decode cX2_init 148 = .ok (.ldc 66, 2) := by decide +kernel
theorem dX2_init_150 : decode cX2_init 150 = .ok (.aastore, 1) := by decide +kernel
theorem dX2_init_151 : decode cX2_init 151 = .ok (.dup, 1) := by decide +kernel
theorem dX2_init_152 : decode cX2_init 152 = .ok (.bipush 8, 2) := by decide +kernel
theorem dX2_init_154 : decode cX2_init 154 = .ok (.ldc 68, 2) := by decide +kernel
theorem dX2_init_156 : decode cX2_init 156 = .ok (.aastore, 1) := by decide +kernel
theorem dX2_init_157 : decode cX2_init 157 = .ok (.putfield 70, 3) := by decide +kernel
theorem dX2_init_160 : decode cX2_init 160 = .ok (.aload_n 0, 1) := by decide +kernel
theorem dX2_init_161 : decode cX2_init 161 = .ok (.bipush 16, 2) := by decide +kernel
theorem dX2_init_163 : decode cX2_init 163 = .ok (.anewarray 73, 3) := by decide +kernel
theorem dX2_init_166 : decode cX2_init 166 = .ok (.putfield 75, 3) := by decide +kernel
theorem dX2_init_169 : decode cX2_init 169 = .ok (.aload_n 0, 1) := by decide +kernel
theorem dX2_init_170 : decode cX2_init 170 = .ok (.bipush 48, 2) := by decide +kernel
theorem dX2_init_172 : decode cX2_init 172 = .ok (.newarray .byte, 2) := by decide +kernel
theorem dX2_init_174 : decode cX2_init 174 = .ok (.putfield 79, 3) := by decide +kernel
theorem dX2_init_177 : decode cX2_init 177 = .ok (.aload_n 0, 1) := by decide +kernel
theorem dX2_init_178 : decode cX2_init 178 = .ok (.new 82, 3) := by decide +kernel
theorem dX2_init_181 : decode cX2_init 181 = .ok (.dup, 1) := by decide +kernel
theorem dX2_init_182 : decode cX2_init 182 = .ok (.invokespecial 84, 3) := by decide +kernel
theorem dX2_init_185 : decode cX2_init 185 = .ok (.putfield 85, 3) := by decide +kernel
theorem dX2_init_188 : decode cX2_init 188 = .ok (.return_, 1) := by decide +kernel
theorem dX2_law_0 : decode cX2_law 0 = .ok (.aload_n 0, 1) := by decide +kernel
theorem dX2_law_1 : decode cX2_law 1 = .ok (.iload_n 1, 1) := by decide +kernel
theorem dX2_law_2 : decode cX2_law 2 = .ok (.putfield 96, 3) := by decide +kernel
theorem dX2_law_5 : decode cX2_law 5 = .ok (.aload_n 0, 1) := by decide +kernel
theorem dX2_law_6 : decode cX2_law 6 = .ok (.iconst 0, 1) := by decide +kernel
theorem dX2_law_7 : decode cX2_law 7 = .ok (.putfield 93, 3) := by decide +kernel
theorem dX2_law_10 : decode cX2_law 10 = .ok (.aload_n 0, 1) := by decide +kernel
theorem dX2_law_11 : decode cX2_law 11 = .ok (.iconst 0, 1) := by decide +kernel
theorem dX2_law_12 : decode cX2_law 12 = .ok (.putfield 118, 3) := by decide +kernel
theorem dX2_law_15 : decode cX2_law 15 = .ok (.iconst 0, 1) := by decide +kernel
theorem dX2_law_16 : decode cX2_law 16 = .ok (.istore_n 3, 1) := by decide +kernel
theorem dX2_law_17 : decode cX2_law 17 = .ok (.aload_n 0, 1) := by decide +kernel
theorem dX2_law_18 : decode cX2_law 18 = .ok (.invokevirtual 99, 3) := by decide +kernel
theorem dX2_law_21 : decode cX2_law 21 = .ok (.iconst (-1), 1) := by decide +kernel
theorem dX2_law_22 : decode cX2_law 22 = .ok (.if_icmp .eq 7, 3) := by decide +kernel
theorem dX2_law_25 : decode cX2_law 25 = .ok (.iconst 1, 1) := by decide +kernel
theorem dX2_law_26 : decode cX2_law 26 = .ok (.goto 4, 3) := by decide +kernel
theorem dX2_law_29 : decode cX2_law 29 = .ok (.iconst 0, 1) := by decide +kernel
theorem dX2_law_30 : decode cX2_law 30 = .ok (.istore 4, 2) := by decide +kernel
theorem dX2_law_32 : decode cX2_law 32 = .ok (.iload 4, 2) := by decide +kernel
theorem dX2_law_34 : decode cX2_law 34 = .ok (.ifCond .eq 89, 3) := by decide +kernel
theorem dX2_law_37 : decode cX2_law 37 = .ok (.aload_n 0, 1) := by decide +kernel
theorem dX2_law_38 : decode cX2_law 38 = .ok (.invokevirtual 99, 3) := by decide +kernel
theorem dX2_law_41 : decode cX2_law 41 = .ok (.istore 5, 2) := by decide +kernel
theorem dX2_law_43 : decode cX2_law 43 = .ok (.iload_n 3, 1) := by decide +kernel
theorem dX2_law_44 : decode cX2_law 44 = .ok (.bipush 16, 2) := by decide +kernel
theorem dX2_law_46 : decode cX2_law 46 = .ok (.if_icmp .ne 11, 3) := by decide +kernel
theorem dX2_law_49 : decode cX2_law 49 = .ok (.aload_n 0, 1) := by decide +kernel
theorem dX2_law_50 : decode cX2_law 50 = .ok (.aload_n 0, 1) := by decide +kernel
theorem dX2_law_51 : decode cX2_law 51 = .ok (.getfield 93, 3) := by decide +kernel
theorem dX2_law_54 : decode cX2_law 54 = .ok (.invokevirtual 114, 3) := by decide +kernel
theorem dX2_law_57 : decode cX2_law 57 = .ok (.aload_n 0, 1) := by decide +kernel
theorem dX2_law_58 : decode cX2_law 58 = .ok (.getfield 75, 3) := by decide +kernel
theorem dX2_law_61 : decode cX2_law 61 = .ok (.iload_n 3, 1) := by decide +kernel
theorem dX2_law_62 : decode cX2_law 62 = .ok (.aload_n 0, 1) := by decide +kernel
theorem dX2_law_63 : decode cX2_law 63 = .ok (.invokevirtual 121, 3) := by decide +kernel
theorem dX2_law_66 : decode cX2_law 66 = .ok (.aastore, 1) := by decide +kernel
theorem dX2_law_67 : decode cX2_law 67 = .ok (.iinc 3 1, 3) := by decide +kernel
theorem dX2_law_70 : decode cX2_law 70 = .ok (.aload_n 0, 1) := by decide +kernel
theorem dX2_law_71 : decode cX2_law 71 = .ok (.invokevirtual 99, 3) := by decide +kernel
theorem dX2_law_74 : decode cX2_law 74 = .ok (.bipush 59, 2) := by decide +kernel
theorem dX2_law_76 : decode cX2_law 76 = .ok (.if_icmp .ne 7, 3) := by decide +kernel
theorem dX2_law_79 : decode cX2_law 79 = .ok (.iconst 1, 1) := by decide +kernel
theorem dX2_law_80 : decode cX2_law 80 = .ok (.goto 4, 3) := by decide +kernel
theorem dX2_law_83 : decode cX2_law 83 = .ok (.iconst 0, 1) := by decide +kernel
theorem dX2_law_84 : decode cX2_law 84 = .ok (.istore 4, 2) := by decide +kernel
theorem dX2_law_86 : decode cX2_law 86 = .ok (.iload 4, 2) := by decide +kernel
theorem dX2_law_88 : decode cX2_law 88 = .ok (.ifCond .eq 16, 3) := by decide +kernel
theorem dX2_law_91 : decode cX2_law 91 = .ok (.aload_n 0, 1) := by decide +kernel
theorem dX2_law_92 : decode cX2_law 92 = .ok (.dup, 1) := by decide +kernel
theorem dX2_law_93 : decode cX2_law 93 = .ok (.getfield 93, 3) := by decide +kernel
theorem dX2_law_96 : decode cX2_law 96 = .ok (.iconst 1, 1) := by decide +kernel
theorem dX2_law_97 : decode cX2_law 97 = .ok (.iadd, 1) := by decide +kernel
theorem dX2_law_98 : decode cX2_law 98 = .ok (.putfield 93, 3) := by decide +kernel
theorem dX2_law_101 : decode cX2_law 101 = .ok (.goto 19, 3) := by decide +kernel
theorem dX2_law_104 : decode cX2_law 104 = .ok (.aload_n 0, 1) := by decide +kernel
theorem dX2_law_105 : decode cX2_law 105 = .ok (.invokevirtual 99, 3) := by decide +kernel
theorem dX2_law_108 : decode cX2_law 108 = .ok (.iconst (-1), 1) := by decide +kernel
theorem dX2_law_109 : decode cX2_law 109 = .ok (.if_icmp .eq 11, 3) := by decide +kernel
theorem dX2_law_112 : decode cX2_law 112 = .ok (.aload_n 0, 1) := by decide +kernel
theorem dX2_law_113 : decode cX2_law 113 = .ok (.aload_n 0, 1) := by decide +kernel
theorem dX2_law_114 : decode cX2_law 114 = .ok (.getfield 93, 3) := by decide +kernel
theorem dX2_law_117 : decode cX2_law 117 = .ok (.invokevirtual 114, 3) := by decide +kernel
theorem dX2_law_120 : decode cX2_law 120 = .ok (.goto (-88), 3) := by decide +kernel
theorem dX2_law_123 : decode cX2_law 123 = .ok (.new 125, 3) := by decide +kernel
theorem dX2_law_126 : decode cX2_law 126 = .ok (.dup, 1) := by decide +kernel
theorem dX2_law_127 : decode cX2_law 127 = .ok (.iload_n 2, 1) := by decide +kernel
theorem dX2_law_128 : decode cX2_law 128 = .ok (.aload_n 0, 1) := by decide +kernel
theorem dX2_law_129 : decode cX2_law 129 = .ok (.getfield 75, 3) := by decide +kernel
theorem dX2_law_132 : decode cX2_law 132 = .ok (.iload_n 3, 1) := by decide +kernel
theorem dX2_law_133 : decode cX2_law 133 = .ok (.invokespecial 127, 3) := by decide +kernel
theorem dX2_law_136 : decode cX2_law 136 = .ok (.areturn, 1) := by decide +kernel
theorem dX2_sign_0 : decode cX2_sign 0 = .ok (.aload_n 0, 1) := by decide +kernel
theorem dX2_sign_1 : decode cX2_sign 1 = .ok (.getfield 93, 3) := by decide +kernel
theorem dX2_sign_4 : decode cX2_sign 4 = .ok (.aload_n 0, 1) := by decide +kernel
theorem dX2_sign_5 : decode cX2_sign 5 = .ok (.getfield 96, 3) := by decide +kernel
theorem dX2_sign_8 : decode cX2_sign 8 = .ok (.if_icmp .ge 30, 3) := by decide +kernel
theorem dX2_sign_11 : decode cX2_sign 11 = .ok (.aload_n 0, 1) := by decide +kernel
theorem dX2_sign_12 : decode cX2_sign 12 = .ok (.getfield 9, 3) := by decide +kernel
theorem dX2_sign_15 : decode cX2_sign 15 = .ok (.aload_n 0, 1) := by decide +kernel
theorem dX2_sign_16 : decode cX2_sign 16 = .ok (.getfield 93, 3) := by decide +kernel
theorem dX2_sign_19 : decode cX2_sign 19 = .ok (.baload, 1) := by decide +kernel
theorem dX2_sign_20 : decode cX2_sign 20 = .ok (.bipush 32, 2) := by decide +kernel
theorem dX2_sign_22 : decode cX2_sign 22 = .ok (.if_icmp .ne 16, 3) := by decide +kernel
theorem dX2_sign_25 : decode cX2_sign 25 = .ok (.aload_n 0, 1) := by decide +kernel
theorem dX2_sign_26 : decode cX2_sign 26 = .ok (.dup, 1) := by decide +kernel
theorem dX2_sign_27 : decode cX2_sign 27 = .ok (.getfield 93, 3) := by decide +kernel
theorem dX2_sign_30 : decode cX2_sign 30 = .ok (.iconst 1, 1) := by decide +kernel
theorem dX2_sign_31 : decode cX2_sign 31 = .ok (.iadd, 1) := by decide +kernel
theorem dX2_sign_32 : decode cX2_sign 32 = .ok (.putfield 93, 3) := by decide +kernel
theorem dX2_sign_35 : decode cX2_sign 35 = .ok (.goto (-35), 3) := by decide +kernel
theorem dX2_sign_38 : decode cX2_sign 38 = .ok (.aload_n 0, 1) := by decide +kernel
theorem dX2_sign_39 : decode cX2_sign 39 = .ok (.getfield 93, 3) := by decide +kernel
theorem dX2_sign_42 : decode cX2_sign 42 = .ok (.aload_n 0, 1) := by decide +kernel
theorem dX2_sign_43 : decode cX2_sign 43 = .ok (.getfield 96, 3) := by decide +kernel
theorem dX2_sign_46 : decode cX2_sign 46 = .ok (.if_icmp .ge 19, 3) := by decide +kernel
theorem dX2_sign_49 : decode cX2_sign 49 = .ok (.aload_n 0, 1) := by decide +kernel
theorem dX2_sign_50 : decode cX2_sign 50 = .ok (.getfield 9, 3) := by decide +kernel
theorem dX2_sign_53 : decode cX2_sign 53 = .ok (.aload_n 0, 1) := by decide +kernel
theorem dX2_sign_54 : decode cX2_sign 54 = .ok (.getfield 93, 3) := by decide +kernel
theorem dX2_sign_57 : decode cX2_sign 57 = .ok (.baload, 1) := by decide +kernel
theorem dX2_sign_58 : decode cX2_sign 58 = .ok (.sipush 255, 3) := by decide +kernel
theorem dX2_sign_61 : decode cX2_sign 61 = .ok (.iand, 1) := by decide +kernel
theorem dX2_sign_62 : decode cX2_sign 62 = .ok (.goto 4, 3) := by decide +kernel
theorem dX2_sign_65 : decode cX2_sign 65 = .ok (.iconst (-1), 1) := by decide +kernel
theorem dX2_sign_66 : decode cX2_sign 66 = .ok (.ireturn, 1) := by decide +kernel
theorem dX2_fail_0 : decode cX2_fail 0 = .ok (.aload_n 0, 1) := by decide +kernel
theorem dX2_fail_1 : decode cX2_fail 1 = .ok (.getfield 85, 3) := by decide +kernel
theorem dX2_fail_4 : decode cX2_fail 4 = .ok (.iload_n 1, 1) := by decide +kernel
theorem dX2_fail_5 : decode cX2_fail 5 = .ok (.putfield 89, 3) := by decide +kernel
theorem dX2_fail_8 : decode cX2_fail 8 = .ok (.aload_n 0, 1) := by decide +kernel
theorem dX2_fail_9 : decode cX2_fail 9 = .ok (.getfield 85, 3) := by decide +kernel
theorem dX2_fail_12 : decode cX2_fail 12 = .ok (.athrow, 1) := by decide +kernel
theorem dX2_clause_0 : decode cX2_clause 0 = .ok (.aload_n 0, 1) := by decide +kernel
theorem dX2_clause_1 : decode cX2_clause 1 = .ok (.aload_n 0, 1) := by decide +kernel
theorem dX2_clause_2 : decode cX2_clause 2 = .ok (.getfield 29, 3) := by decide +kernel
theorem dX2_clause_5 : decode cX2_clause 5 = .ok (.invokevirtual 130, 3) := by decide +kernel
theorem dX2_clause_8 : decode cX2_clause 8 = .ok (.istore_n 1, 1) := by decide +kernel
theorem dX2_clause_9 : decode cX2_clause 9 = .ok (.iload_n 1, 1) := by decide +kernel
theorem dX2_clause_10 : decode cX2_clause 10 = .ok (.ifCond .ne 14, 3) := by decide +kernel
theorem dX2_clause_13 : decode cX2_clause 13 = .ok (.aload_n 0, 1) := by decide +kernel
theorem dX2_clause_14 : decode cX2_clause 14 = .ok (.aload_n 0, 1) := by decide +kernel
theorem dX2_clause_15 : decode cX2_clause 15 = .ok (.getfield 49, 3) := by decide +kernel
theorem dX2_clause_18 : decode cX2_clause 18 = .ok (.invokevirtual 130, 3) := by decide +kernel
theorem dX2_clause_21 : decode cX2_clause 21 = .ok (.goto 16, 3) := by decide +kernel
theorem dX2_clause_24 : decode cX2_clause 24 = .ok (.iload_n 1, 1) := by decide +kernel
theorem dX2_clause_25 : decode cX2_clause 25 = .ok (.iconst 5, 1) := by decide +kernel
theorem dX2_clause_26 : decode cX2_clause 26 = .ok (.if_icmp .ne 7, 3) := by decide +kernel
theorem dX2_clause_29 : decode cX2_clause 29 = .ok (.iconst 0, 1) := by decide +kernel
theorem dX2_clause_30 : decode cX2_clause 30 = .ok (.goto 7, 3) := by decide +kernel
theorem dX2_clause_33 : decode cX2_clause 33 = .ok (.aload_n 0, 1) := by decide +kernel
theorem dX2_clause_34 : decode cX2_clause 34 = .ok (.invokevirtual 134, 3) := by decide +kernel
theorem dX2_clause_37 : decode cX2_clause 37 = .ok (.istore_n 2, 1) := by decide +kernel
theorem dX2_clause_38 : decode cX2_clause 38 = .ok (.new 73, 3) := by decide +kernel
theorem dX2_clause_41 : decode cX2_clause 41 = .ok (.dup, 1) := by decide +kernel
theorem dX2_clause_42 : decode cX2_clause 42 = .ok (.iload_n 1, 1) := by decide +kernel
theorem dX2_clause_43 : decode cX2_clause 43 = .ok (.iload_n 2, 1) := by decide +kernel
theorem dX2_clause_44 : decode cX2_clause 44 = .ok (.aload_n 0, 1) := by decide +kernel
theorem dX2_clause_45 : decode cX2_clause 45 = .ok (.ldc 137, 2) := by decide +kernel
theorem dX2_clause_47 : decode cX2_clause 47 = .ok (.invokevirtual 110, 3) := by decide +kernel
theorem dX2_clause_50 : decode cX2_clause 50 = .ok (.ifCond .eq 10, 3) := by decide +kernel
theorem dX2_clause_53 : decode cX2_clause 53 = .ok (.aload_n 0, 1) := by decide +kernel
theorem dX2_clause_54 : decode cX2_clause 54 = .ok (.invokevirtual 139, 3) := by decide +kernel
theorem dX2_clause_57 : decode cX2_clause 57 = .ok (.goto 4, 3) := by decide +kernel
theorem dX2_clause_60 : decode cX2_clause 60 = .ok (.aconst_null, 1) := by decide +kernel
theorem dX2_clause_61 : decode cX2_clause 61 = .ok (.invokespecial 143, 3) := by decide +kernel
theorem dX2_clause_64 : decode cX2_clause 64 = .ok (.areturn, 1) := by decide +kernel
theorem dX2_one_0 : decode cX2_one 0 = .ok (.iconst 0, 1) := by decide +kernel
theorem dX2_one_1 : decode cX2_one 1 = .ok (.istore_n 2, 1) := by decide +kernel
theorem dX2_one_2 : decode cX2_one 2 = .ok (.iload_n 2, 1) := by decide +kernel
theorem dX2_one_3 : decode cX2_one 3 = .ok (.aload_n 1, 1) := by decide +kernel
theorem dX2_one_4 : decode cX2_one 4 = .ok (.arraylength, 1) := by decide +kernel
theorem dX2_one_5 : decode cX2_one 5 = .ok (.if_icmp .ge 21, 3) := by decide +kernel
theorem dX2_one_8 : decode cX2_one 8 = .ok (.aload_n 0, 1) := by decide +kernel
theorem dX2_one_9 : decode cX2_one 9 = .ok (.aload_n 1, 1) := by decide +kernel
theorem dX2_one_10 : decode cX2_one 10 = .ok (.iload_n 2, 1) := by decide +kernel
theorem dX2_one_11 : decode cX2_one 11 = .ok (.aaload, 1) := by decide +kernel
theorem dX2_one_12 : decode cX2_one 12 = .ok (.invokevirtual 110, 3) := by decide +kernel
theorem dX2_one_15 : decode cX2_one 15 = .ok (.ifCond .eq 5, 3) := by decide +kernel
theorem dX2_one_18 : decode cX2_one 18 = .ok (.iload_n 2, 1) := by decide +kernel
theorem dX2_one_19 : decode cX2_one 19 = .ok (.ireturn, 1) := by decide +kernel
theorem dX2_one_20 : decode cX2_one 20 = .ok (.iinc 2 1, 3) := by decide +kernel
theorem dX2_one_23 : decode cX2_one 23 = .ok (.goto (-21), 3) := by decide +kernel
theorem dX2_one_26 : decode cX2_one 26 = .ok (.aload_n 0, 1) := by decide +kernel
theorem dX2_one_27 : decode cX2_one 27 = .ok (.aload_n 0, 1) := by decide +kernel
theorem dX2_one_28 : decode cX2_one 28 = .ok (.getfield 93, 3) := by decide +kernel
theorem dX2_one_31 : decode cX2_one 31 = .ok (.invokevirtual 114, 3) := by decide +kernel
theorem dX2_one_34 : decode cX2_one 34 = .ok (.iconst (-1), 1) := by decide +kernel
theorem dX2_one_35 : decode cX2_one 35 = .ok (.ireturn, 1) := by decide +kernel
theorem dX2_takes_0 : decode cX2_takes 0 = .ok (.aload_n 0, 1) := by decide +kernel
theorem dX2_takes_1 : decode cX2_takes 1 = .ok (.invokevirtual 99, 3) := by decide +kernel
theorem dX2_takes_4 : decode cX2_takes 4 = .ok (.istore_n 2, 1) := by decide +kernel
theorem dX2_takes_5 : decode cX2_takes 5 = .ok (.aload_n 0, 1) := by decide +kernel
theorem dX2_takes_6 : decode cX2_takes 6 = .ok (.getfield 93, 3) := by decide +kernel
theorem dX2_takes_9 : decode cX2_takes 9 = .ok (.istore_n 3, 1) := by decide +kernel
theorem dX2_takes_10 : decode cX2_takes 10 = .ok (.iload_n 3, 1) := by decide +kernel
theorem dX2_takes_11 : decode cX2_takes 11 = .ok (.aload_n 0, 1) := by decide +kernel
theorem dX2_takes_12 : decode cX2_takes 12 = .ok (.getfield 96, 3) := by decide +kernel
theorem dX2_takes_15 : decode cX2_takes 15 = .ok (.if_icmp .ge 31, 3) := by decide +kernel
theorem dX2_takes_18 : decode cX2_takes 18 = .ok (.aload_n 0, 1) := by decide +kernel
theorem dX2_takes_19 : decode cX2_takes 19 = .ok (.getfield 9, 3) := by decide +kernel
theorem dX2_takes_22 : decode cX2_takes 22 = .ok (.iload_n 3, 1) := by decide +kernel
theorem dX2_takes_23 : decode cX2_takes 23 = .ok (.baload, 1) := by decide +kernel
theorem dX2_takes_24 : decode cX2_takes 24 = .ok (.bipush 97, 2) := by decide +kernel
theorem dX2_takes_26 : decode cX2_takes 26 = .ok (.if_icmp .lt 20, 3) := by decide +kernel
theorem dX2_takes_29 : decode cX2_takes 29 = .ok (.aload_n 0, 1) := by decide +kernel
theorem dX2_takes_30 : decode cX2_takes 30 = .ok (.getfield 9, 3) := by decide +kernel
theorem dX2_takes_33 : decode cX2_takes 33 = .ok (.iload_n 3, 1) := by decide +kernel
theorem dX2_takes_34 : decode cX2_takes 34 = .ok (.baload, 1) := by decide +kernel
theorem dX2_takes_35 : decode cX2_takes 35 = .ok (.bipush 122, 2) := by decide +kernel
theorem dX2_takes_37 : decode cX2_takes 37 = .ok (.if_icmp .gt 9, 3) := by decide +kernel
theorem dX2_takes_40 : decode cX2_takes 40 = .ok (.iinc 3 1, 3) := by decide +kernel
theorem dX2_takes_43 : decode cX2_takes 43 = .ok (.goto (-33), 3) := by decide +kernel
theorem dX2_takes_46 : decode cX2_takes 46 = .ok (.iload_n 3, 1) := by decide +kernel
theorem dX2_takes_47 : decode cX2_takes 47 = .ok (.aload_n 0, 1) := by decide +kernel
theorem dX2_takes_48 : decode cX2_takes 48 = .ok (.getfield 93, 3) := by decide +kernel
theorem dX2_takes_51 : decode cX2_takes 51 = .ok (.isub, 1) := by decide +kernel
theorem dX2_takes_52 : decode cX2_takes 52 = .ok (.aload_n 1, 1) := by decide +kernel
theorem dX2_takes_53 : decode cX2_takes 53 = .ok (.invokevirtual 103, 3) := by decide +kernel
theorem dX2_takes_56 : decode cX2_takes 56 = .ok (.if_icmp .ne 7, 3) := by decide +kernel
theorem dX2_takes_59 : decode cX2_takes 59 = .ok (.iconst 1, 1) := by decide +kernel
theorem dX2_takes_60 : decode cX2_takes 60 = .ok (.goto 4, 3) := by decide +kernel
theorem dX2_takes_63 : decode cX2_takes 63 = .ok (.iconst 0, 1) := by decide +kernel
theorem dX2_takes_64 : decode cX2_takes 64 = .ok (.istore 4, 2) := by decide +kernel
theorem dX2_takes_66 : decode cX2_takes 66 = .ok (.iconst 0, 1) := by decide +kernel
theorem dX2_takes_67 : decode cX2_takes 67 = .ok (.istore 5, 2) := by decide +kernel
theorem dX2_takes_69 : decode cX2_takes 69 = .ok (.iload 5, 2) := by decide +kernel
theorem dX2_takes_71 : decode cX2_takes 71 = .ok (.aload_n 1, 1) := by decide +kernel
theorem dX2_takes_72 : decode cX2_takes 72 = .ok (.invokevirtual 103, 3) := by decide +kernel
theorem dX2_takes_75 : decode cX2_takes 75 = .ok (.if_icmp .ge 42, 3) := by decide +kernel
theorem dX2_takes_78 : decode cX2_takes 78 = .ok (.iload 4, 2) := by decide +kernel
theorem dX2_takes_80 : decode cX2_takes 80 = .ok (.ifCond .eq 37, 3) := by decide +kernel
theorem dX2_takes_83 : decode cX2_takes 83 = .ok (.aload_n 0, 1) := by decide +kernel
theorem dX2_takes_84 : decode cX2_takes 84 = .ok (.getfield 9, 3) := by decide +kernel
theorem dX2_takes_87 : decode cX2_takes 87 = .ok (.aload_n 0, 1) := by decide +kernel
theorem dX2_takes_88 : decode cX2_takes 88 = .ok (.getfield 93, 3) := by decide +kernel
theorem dX2_takes_91 : decode cX2_takes 91 = .ok (.iload 5, 2) := by decide +kernel
theorem dX2_takes_93 : decode cX2_takes 93 = .ok (.iadd, 1) := by decide +kernel
theorem dX2_takes_94 : decode cX2_takes 94 = .ok (.baload, 1) := by decide +kernel
theorem dX2_takes_95 : decode cX2_takes 95 = .ok (.aload_n 1, 1) := by decide +kernel
theorem dX2_takes_96 : decode cX2_takes 96 = .ok (.iload 5, 2) := by decide +kernel
theorem dX2_takes_98 : decode cX2_takes 98 = .ok (.invokevirtual 106, 3) := by decide +kernel
theorem dX2_takes_101 : decode cX2_takes 101 = .ok (.if_icmp .ne 7, 3) := by decide +kernel
theorem dX2_takes_104 : decode cX2_takes 104 = .ok (.iconst 1, 1) := by decide +kernel
theorem dX2_takes_105 : decode cX2_takes 105 = .ok (.goto 4, 3) := by decide +kernel
theorem dX2_takes_108 : decode cX2_takes 108 = .ok (.iconst 0, 1) := by decide +kernel
theorem dX2_takes_109 : decode cX2_takes 109 = .ok (.istore 4, 2) := by decide +kernel
theorem dX2_takes_111 : decode cX2_takes 111 = .ok (.iinc 5 1, 3) := by decide +kernel
theorem dX2_takes_114 : decode cX2_takes 114 = .ok (.goto (-45), 3) := by decide +kernel
theorem dX2_takes_117 : decode cX2_takes 117 = .ok (.iload 4, 2) := by decide +kernel
theorem dX2_takes_119 : decode cX2_takes 119 = .ok (.ifCond .eq 8, 3) := by decide +kernel
theorem dX2_takes_122 : decode cX2_takes 122 = .ok (.aload_n 0, 1) := by decide +kernel
theorem dX2_takes_123 : decode cX2_takes 123 = .ok (.iload_n 3, 1) := by decide +kernel
theorem dX2_takes_124 : decode cX2_takes 124 = .ok (.putfield 93, 3) := by decide +kernel
theorem dX2_takes_127 : decode cX2_takes 127 = .ok (.iload 4, 2) := by decide +kernel
theorem dX2_takes_129 : decode cX2_takes 129 = .ok (.ireturn, 1) := by decide +kernel
theorem dX2_number_0 : decode cX2_number 0 = .ok (.aload_n 0, 1) := by decide +kernel
theorem dX2_number_1 : decode cX2_number 1 = .ok (.invokevirtual 99, 3) := by decide +kernel
theorem dX2_number_4 : decode cX2_number 4 = .ok (.istore_n 1, 1) := by decide +kernel
theorem dX2_number_5 : decode cX2_number 5 = .ok (.aload_n 0, 1) := by decide +kernel
theorem dX2_number_6 : decode cX2_number 6 = .ok (.getfield 93, 3) := by decide +kernel
theorem dX2_number_9 : decode cX2_number 9 = .ok (.istore_n 2, 1) := by decide +kernel
theorem dX2_number_10 : decode cX2_number 10 = .ok (.iconst 0, 1) := by decide +kernel
theorem dX2_number_11 : decode cX2_number 11 = .ok (.istore_n 3, 1) := by decide +kernel
theorem dX2_number_12 : decode cX2_number 12 = .ok (.aload_n 0, 1) := by decide +kernel
theorem dX2_number_13 : decode cX2_number 13 = .ok (.getfield 93, 3) := by decide +kernel
theorem dX2_number_16 : decode cX2_number 16 = .ok (.aload_n 0, 1) := by decide +kernel
theorem dX2_number_17 : decode cX2_number 17 = .ok (.getfield 96, 3) := by decide +kernel
theorem dX2_number_20 : decode cX2_number 20 = .ok (.if_icmp .ge 77, 3) := by decide +kernel
theorem dX2_number_23 : decode cX2_number 23 = .ok (.aload_n 0, 1) := by decide +kernel
theorem dX2_number_24 : decode cX2_number 24 = .ok (.getfield 9, 3) := by decide +kernel
theorem dX2_number_27 : decode cX2_number 27 = .ok (.aload_n 0, 1) := by decide +kernel
theorem dX2_number_28 : decode cX2_number 28 = .ok (.getfield 93, 3) := by decide +kernel
theorem dX2_number_31 : decode cX2_number 31 = .ok (.baload, 1) := by decide +kernel
theorem dX2_number_32 : decode cX2_number 32 = .ok (.bipush 48, 2) := by decide +kernel
theorem dX2_number_34 : decode cX2_number 34 = .ok (.if_icmp .lt 63, 3) := by decide +kernel
theorem dX2_number_37 : decode cX2_number 37 = .ok (.aload_n 0, 1) := by decide +kernel
theorem dX2_number_38 : decode cX2_number 38 = .ok (.getfield 9, 3) := by decide +kernel
theorem dX2_number_41 : decode cX2_number 41 = .ok (.aload_n 0, 1) := by decide +kernel
theorem dX2_number_42 : decode cX2_number 42 = .ok (.getfield 93, 3) := by decide +kernel
theorem dX2_number_45 : decode cX2_number 45 = .ok (.baload, 1) := by decide +kernel
theorem dX2_number_46 : decode cX2_number 46 = .ok (.bipush 57, 2) := by decide +kernel
theorem dX2_number_48 : decode cX2_number 48 = .ok (.if_icmp .gt 49, 3) := by decide +kernel
theorem dX2_number_51 : decode cX2_number 51 = .ok (.aload_n 0, 1) := by decide +kernel
theorem dX2_number_52 : decode cX2_number 52 = .ok (.getfield 93, 3) := by decide +kernel
theorem dX2_number_55 : decode cX2_number 55 = .ok (.iload_n 2, 1) := by decide +kernel
theorem dX2_number_56 : decode cX2_number 56 = .ok (.isub, 1) := by decide +kernel
theorem dX2_number_57 : decode cX2_number 57 = .ok (.iconst 4, 1) := by decide +kernel
theorem dX2_number_58 : decode cX2_number 58 = .ok (.if_icmp .ne 8, 3) := by decide +kernel
theorem dX2_number_61 : decode cX2_number 61 = .ok (.aload_n 0, 1) := by decide +kernel
theorem dX2_number_62 : decode cX2_number 62 = .ok (.iload_n 2, 1) := by decide +kernel
theorem dX2_number_63 : decode cX2_number 63 = .ok (.invokevirtual 114, 3) := by decide +kernel
theorem dX2_number_66 : decode cX2_number 66 = .ok (.bipush 10, 2) := by decide +kernel
theorem dX2_number_68 : decode cX2_number 68 = .ok (.iload_n 3, 1) := by decide +kernel
theorem dX2_number_69 : decode cX2_number 69 = .ok (.imul, 1) := by decide +kernel
theorem dX2_number_70 : decode cX2_number 70 = .ok (.aload_n 0, 1) := by decide +kernel
theorem dX2_number_71 : decode cX2_number 71 = .ok (.getfield 9, 3) := by decide +kernel
theorem dX2_number_74 : decode cX2_number 74 = .ok (.aload_n 0, 1) := by decide +kernel
theorem dX2_number_75 : decode cX2_number 75 = .ok (.getfield 93, 3) := by decide +kernel
theorem dX2_number_78 : decode cX2_number 78 = .ok (.baload, 1) := by decide +kernel
theorem dX2_number_79 : decode cX2_number 79 = .ok (.iadd, 1) := by decide +kernel
theorem dX2_number_80 : decode cX2_number 80 = .ok (.bipush 48, 2) := by decide +kernel
theorem dX2_number_82 : decode cX2_number 82 = .ok (.isub, 1) := by decide +kernel
theorem dX2_number_83 : decode cX2_number 83 = .ok (.istore_n 3, 1) := by decide +kernel
theorem dX2_number_84 : decode cX2_number 84 = .ok (.aload_n 0, 1) := by decide +kernel
theorem dX2_number_85 : decode cX2_number 85 = .ok (.dup, 1) := by decide +kernel
theorem dX2_number_86 : decode cX2_number 86 = .ok (.getfield 93, 3) := by decide +kernel
theorem dX2_number_89 : decode cX2_number 89 = .ok (.iconst 1, 1) := by decide +kernel
theorem dX2_number_90 : decode cX2_number 90 = .ok (.iadd, 1) := by decide +kernel
theorem dX2_number_91 : decode cX2_number 91 = .ok (.putfield 93, 3) := by decide +kernel
theorem dX2_number_94 : decode cX2_number 94 = .ok (.goto (-82), 3) := by decide +kernel
theorem dX2_number_97 : decode cX2_number 97 = .ok (.aload_n 0, 1) := by decide +kernel
theorem dX2_number_98 : decode cX2_number 98 = .ok (.getfield 93, 3) := by decide +kernel
theorem dX2_number_101 : decode cX2_number 101 = .ok (.iload_n 2, 1) := by decide +kernel
theorem dX2_number_102 : decode cX2_number 102 = .ok (.if_icmp .ne 8, 3) := by decide +kernel
theorem dX2_number_105 : decode cX2_number 105 = .ok (.aload_n 0, 1) := by decide +kernel
theorem dX2_number_106 : decode cX2_number 106 = .ok (.iload_n 2, 1) := by decide +kernel
theorem dX2_number_107 : decode cX2_number 107 = .ok (.invokevirtual 114, 3) := by decide +kernel
theorem dX2_number_110 : decode cX2_number 110 = .ok (.iload_n 3, 1) := by decide +kernel
theorem dX2_number_111 : decode cX2_number 111 = .ok (.ireturn, 1) := by decide +kernel
theorem dX2_cond_0 : decode cX2_cond 0 = .ok (.aload_n 0, 1) := by decide +kernel
theorem dX2_cond_1 : decode cX2_cond 1 = .ok (.invokevirtual 146, 3) := by decide +kernel
theorem dX2_cond_4 : decode cX2_cond 4 = .ok (.astore_n 1, 1) := by decide +kernel
theorem dX2_cond_5 : decode cX2_cond 5 = .ok (.aload_n 0, 1) := by decide +kernel
theorem dX2_cond_6 : decode cX2_cond 6 = .ok (.ldc 149, 2) := by decide +kernel
theorem dX2_cond_8 : decode cX2_cond 8 = .ok (.invokevirtual 110, 3) := by decide +kernel
theorem dX2_cond_11 : decode cX2_cond 11 = .ok (.ifCond .eq 20, 3) := by decide +kernel
theorem dX2_cond_14 : decode cX2_cond 14 = .ok (.new 151, 3) := by decide +kernel
theorem dX2_cond_17 : decode cX2_cond 17 = .ok (.dup, 1) := by decide +kernel
theorem dX2_cond_18 : decode cX2_cond 18 = .ok (.aload_n 1, 1) := by decide +kernel
theorem dX2_cond_19 : decode cX2_cond 19 = .ok (.aload_n 0, 1) := by decide +kernel
theorem dX2_cond_20 : decode cX2_cond 20 = .ok (.invokevirtual 146, 3) := by decide +kernel
theorem dX2_cond_23 : decode cX2_cond 23 = .ok (.iconst 0, 1) := by decide +kernel
theorem dX2_cond_24 : decode cX2_cond 24 = .ok (.invokespecial 153, 3) := by decide +kernel
theorem dX2_cond_27 : decode cX2_cond 27 = .ok (.astore_n 1, 1) := by decide +kernel
theorem dX2_cond_28 : decode cX2_cond 28 = .ok (.goto (-23), 3) := by decide +kernel
theorem dX2_cond_31 : decode cX2_cond 31 = .ok (.aload_n 1, 1) := by decide +kernel
theorem dX2_cond_32 : decode cX2_cond 32 = .ok (.areturn, 1) := by decide +kernel
theorem dX2_all_0 : decode cX2_all 0 = .ok (.aload_n 0, 1) := by decide +kernel
theorem dX2_all_1 : decode cX2_all 1 = .ok (.invokevirtual 156, 3) := by decide +kernel
theorem dX2_all_4 : decode cX2_all 4 = .ok (.astore_n 1, 1) := by decide +kernel
theorem dX2_all_5 : decode cX2_all 5 = .ok (.aload_n 0, 1) := by decide +kernel
theorem dX2_all_6 : decode cX2_all 6 = .ok (.ldc 159, 2) := by decide +kernel
theorem dX2_all_8 : decode cX2_all 8 = .ok (.invokevirtual 110, 3) := by decide +kernel
theorem dX2_all_11 : decode cX2_all 11 = .ok (.ifCond .eq 20, 3) := by decide +kernel
theorem dX2_all_14 : decode cX2_all 14 = .ok (.new 151, 3) := by decide +kernel
theorem dX2_all_17 : decode cX2_all 17 = .ok (.dup, 1) := by decide +kernel
theorem dX2_all_18 : decode cX2_all 18 = .ok (.aload_n 1, 1) := by decide +kernel
theorem dX2_all_19 : decode cX2_all 19 = .ok (.aload_n 0, 1) := by decide +kernel
theorem dX2_all_20 : decode cX2_all 20 = .ok (.invokevirtual 156, 3) := by decide +kernel
theorem dX2_all_23 : decode cX2_all 23 = .ok (.iconst 1, 1) := by decide +kernel
theorem dX2_all_24 : decode cX2_all 24 = .ok (.invokespecial 153, 3) := by decide +kernel
theorem dX2_all_27 : decode cX2_all 27 = .ok (.astore_n 1, 1) := by decide +kernel
theorem dX2_all_28 : decode cX2_all 28 = .ok (.goto (-23), 3) := by decide +kernel
theorem dX2_all_31 : decode cX2_all 31 = .ok (.aload_n 1, 1) := by decide +kernel
theorem dX2_all_32 : decode cX2_all 32 = .ok (.areturn, 1) := by decide +kernel
theorem dX2_atom_0 : decode cX2_atom 0 = .ok (.aload_n 0, 1) := by decide +kernel
theorem dX2_atom_1 : decode cX2_atom 1 = .ok (.invokevirtual 99, 3) := by decide +kernel
theorem dX2_atom_4 : decode cX2_atom 4 = .ok (.istore_n 1, 1) := by decide +kernel
theorem dX2_atom_5 : decode cX2_atom 5 = .ok (.aload_n 0, 1) := by decide +kernel
theorem dX2_atom_6 : decode cX2_atom 6 = .ok (.getfield 93, 3) := by decide +kernel
theorem dX2_atom_9 : decode cX2_atom 9 = .ok (.istore_n 2, 1) := by decide +kernel
theorem dX2_atom_10 : decode cX2_atom 10 = .ok (.aload_n 0, 1) := by decide +kernel
theorem dX2_atom_11 : decode cX2_atom 11 = .ok (.ldc 161, 2) := by decide +kernel
theorem dX2_atom_13 : decode cX2_atom 13 = .ok (.invokevirtual 110, 3) := by decide +kernel
theorem dX2_atom_16 : decode cX2_atom 16 = .ok (.istore_n 3, 1) := by decide +kernel
theorem dX2_atom_17 : decode cX2_atom 17 = .ok (.iload_n 3, 1) := by decide +kernel
theorem dX2_atom_18 : decode cX2_atom 18 = .ok (.ifCond .ne 14, 3) := by decide +kernel
theorem dX2_atom_21 : decode cX2_atom 21 = .ok (.iload_n 1, 1) := by decide +kernel
theorem dX2_atom_22 : decode cX2_atom 22 = .ok (.bipush 40, 2) := by decide +kernel
theorem dX2_atom_24 : decode cX2_atom 24 = .ok (.if_icmp .eq 8, 3) := by decide +kernel
theorem dX2_atom_27 : decode cX2_atom 27 = .ok (.aload_n 0, 1) := by decide +kernel
theorem dX2_atom_28 : decode cX2_atom 28 = .ok (.invokevirtual 163, 3) := by decide +kernel
theorem dX2_atom_31 : decode cX2_atom 31 = .ok (.areturn, 1) := by decide +kernel
theorem dX2_atom_32 : decode cX2_atom 32 = .ok (.aload_n 0, 1) := by decide +kernel
theorem dX2_atom_33 : decode cX2_atom 33 = .ok (.getfield 118, 3) := by decide +kernel
theorem dX2_atom_36 : decode cX2_atom 36 = .ok (.bipush 8, 2) := by decide +kernel
theorem dX2_atom_38 : decode cX2_atom 38 = .ok (.if_icmp .ne 8, 3) := by decide +kernel
theorem dX2_atom_41 : decode cX2_atom 41 = .ok (.aload_n 0, 1) := by decide +kernel
theorem dX2_atom_42 : decode cX2_atom 42 = .ok (.iload_n 2, 1) := by decide +kernel
theorem dX2_atom_43 : decode cX2_atom 43 = .ok (.invokevirtual 114, 3) := by decide +kernel
theorem dX2_atom_46 : decode cX2_atom 46 = .ok (.aload_n 0, 1) := by decide +kernel
theorem dX2_atom_47 : decode cX2_atom 47 = .ok (.dup, 1) := by decide +kernel
theorem dX2_atom_48 : decode cX2_atom 48 = .ok (.getfield 118, 3) := by decide +kernel
theorem dX2_atom_51 : decode cX2_atom 51 = .ok (.iconst 1, 1) := by decide +kernel
theorem dX2_atom_52 : decode cX2_atom 52 = .ok (.iadd, 1) := by decide +kernel
theorem dX2_atom_53 : decode cX2_atom 53 = .ok (.putfield 118, 3) := by decide +kernel
theorem dX2_atom_56 : decode cX2_atom 56 = .ok (.iload_n 3, 1) := by decide +kernel
theorem dX2_atom_57 : decode cX2_atom 57 = .ok (.ifCond .eq 19, 3) := by decide +kernel
theorem dX2_atom_60 : decode cX2_atom 60 = .ok (.new 166, 3) := by decide +kernel
theorem dX2_atom_63 : decode cX2_atom 63 = .ok (.dup, 1) := by decide +kernel
theorem dX2_atom_64 : decode cX2_atom 64 = .ok (.aload_n 0, 1) := by decide +kernel
theorem dX2_atom_65 : decode cX2_atom 65 = .ok (.invokevirtual 156, 3) := by decide +kernel
theorem dX2_atom_68 : decode cX2_atom 68 = .ok (.invokespecial 168, 3) := by decide +kernel
theorem dX2_atom_71 : decode cX2_atom 71 = .ok (.astore 4, 2) := by decide +kernel
theorem dX2_atom_73 : decode cX2_atom 73 = .ok (.goto 46, 3) := by decide +kernel
theorem dX2_atom_76 : decode cX2_atom 76 = .ok (.aload_n 0, 1) := by decide +kernel
theorem dX2_atom_77 : decode cX2_atom 77 = .ok (.dup, 1) := by decide +kernel
theorem dX2_atom_78 : decode cX2_atom 78 = .ok (.getfield 93, 3) := by decide +kernel
theorem dX2_atom_81 : decode cX2_atom 81 = .ok (.iconst 1, 1) := by decide +kernel
theorem dX2_atom_82 : decode cX2_atom 82 = .ok (.iadd, 1) := by decide +kernel
theorem dX2_atom_83 : decode cX2_atom 83 = .ok (.putfield 93, 3) := by decide +kernel
theorem dX2_atom_86 : decode cX2_atom 86 = .ok (.aload_n 0, 1) := by decide +kernel
theorem dX2_atom_87 : decode cX2_atom 87 = .ok (.invokevirtual 139, 3) := by decide +kernel
theorem dX2_atom_90 : decode cX2_atom 90 = .ok (.astore 4, 2) := by decide +kernel
theorem dX2_atom_92 : decode cX2_atom 92 = .ok (.aload_n 0, 1) := by decide +kernel
theorem dX2_atom_93 : decode cX2_atom 93 = .ok (.invokevirtual 99, 3) := by decide +kernel
theorem dX2_atom_96 : decode cX2_atom 96 = .ok (.bipush 41, 2) := by decide +kernel
theorem dX2_atom_98 : decode cX2_atom 98 = .ok (.if_icmp .eq 11, 3) := by decide +kernel
theorem dX2_atom_101 : decode cX2_atom 101 = .ok (.aload_n 0, 1) := by decide +kernel
theorem dX2_atom_102 : decode cX2_atom 102 = .ok (.aload_n 0, 1) := by decide +kernel
theorem dX2_atom_103 : decode cX2_atom 103 = .ok (.getfield 93, 3) := by decide +kernel
theorem dX2_atom_106 : decode cX2_atom 106 = .ok (.invokevirtual 114, 3) := by decide +kernel
theorem dX2_atom_109 : decode cX2_atom 109 = .ok (.aload_n 0, 1) := by decide +kernel
theorem dX2_atom_110 : decode cX2_atom 110 = .ok (.dup, 1) := by decide +kernel
theorem dX2_atom_111 : decode cX2_atom 111 = .ok (.getfield 93, 3) := by decide +kernel
theorem dX2_atom_114 : decode cX2_atom 114 = .ok (.iconst 1, 1) := by decide +kernel
theorem dX2_atom_115 : decode cX2_atom 115 = .ok (.iadd, 1) := by decide +kernel
theorem dX2_atom_116 : decode cX2_atom 116 = .ok (.putfield 93, 3) := by decide +kernel
theorem dX2_atom_119 : decode cX2_atom 119 = .ok (.aload_n 0, 1) := by decide +kernel
theorem dX2_atom_120 : decode cX2_atom 120 = .ok (.dup, 1) := by decide +kernel
theorem dX2_atom_121 : decode cX2_atom 121 = .ok (.getfield 118, 3) := by decide +kernel
theorem dX2_atom_124 : decode cX2_atom 124 = .ok (.iconst 1, 1) := by decide +kernel
theorem dX2_atom_125 : decode cX2_atom 125 = .ok (.isub, 1) := by decide +kernel
theorem dX2_atom_126 : decode cX2_atom 126 = .ok (.putfield 118, 3) := by decide +kernel
theorem dX2_atom_129 : decode cX2_atom 129 = .ok (.aload 4, 2) := by decide +kernel
theorem dX2_atom_131 : decode cX2_atom 131 = .ok (.areturn, 1) := by decide +kernel
theorem dX2_fact_0 : decode cX2_fact 0 = .ok (.aload_n 0, 1) := by decide +kernel
theorem dX2_fact_1 : decode cX2_fact 1 = .ok (.aload_n 0, 1) := by decide +kernel
theorem dX2_fact_2 : decode cX2_fact 2 = .ok (.getfield 70, 3) := by decide +kernel
theorem dX2_fact_5 : decode cX2_fact 5 = .ok (.invokevirtual 130, 3) := by decide +kernel
theorem dX2_fact_8 : decode cX2_fact 8 = .ok (.istore_n 1, 1) := by decide +kernel
theorem dX2_fact_9 : decode cX2_fact 9 = .ok (.aload_n 0, 1) := by decide +kernel
theorem dX2_fact_10 : decode cX2_fact 10 = .ok (.invokevirtual 99, 3) := by decide +kernel
theorem dX2_fact_13 : decode cX2_fact 13 = .ok (.istore_n 2, 1) := by decide +kernel
theorem dX2_fact_14 : decode cX2_fact 14 = .ok (.iload_n 2, 1) := by decide +kernel
theorem dX2_fact_15 : decode cX2_fact 15 = .ok (.bipush 60, 2) := by decide +kernel
theorem dX2_fact_17 : decode cX2_fact 17 = .ok (.if_icmp .eq 21, 3) := by decide +kernel
theorem dX2_fact_20 : decode cX2_fact 20 = .ok (.iload_n 2, 1) := by decide +kernel
theorem dX2_fact_21 : decode cX2_fact 21 = .ok (.bipush 62, 2) := by decide +kernel
theorem dX2_fact_23 : decode cX2_fact 23 = .ok (.if_icmp .eq 15, 3) := by decide +kernel
theorem dX2_fact_26 : decode cX2_fact 26 = .ok (.new 171, 3) := by decide +kernel
theorem dX2_fact_29 : decode cX2_fact 29 = .ok (.dup, 1) := by decide +kernel
theorem dX2_fact_30 : decode cX2_fact 30 = .ok (.iload_n 1, 1) := by decide +kernel
theorem dX2_fact_31 : decode cX2_fact 31 = .ok (.bipush 61, 2) := by decide +kernel
theorem dX2_fact_33 : decode cX2_fact 33 = .ok (.iconst 0, 1) := by decide +kernel
theorem dX2_fact_34 : decode cX2_fact 34 = .ok (.invokespecial 173, 3) := by decide +kernel
theorem dX2_fact_37 : decode cX2_fact 37 = .ok (.areturn, 1) := by decide +kernel
theorem dX2_fact_38 : decode cX2_fact 38 = .ok (.aload_n 0, 1) := by decide +kernel
theorem dX2_fact_39 : decode cX2_fact 39 = .ok (.dup, 1) := by decide +kernel
theorem dX2_fact_40 : decode cX2_fact 40 = .ok (.getfield 93, 3) := by decide +kernel
theorem dX2_fact_43 : decode cX2_fact 43 = .ok (.iconst 1, 1) := by decide +kernel
theorem dX2_fact_44 : decode cX2_fact 44 = .ok (.iadd, 1) := by decide +kernel
theorem dX2_fact_45 : decode cX2_fact 45 = .ok (.putfield 93, 3) := by decide +kernel
theorem dX2_fact_48 : decode cX2_fact 48 = .ok (.new 171, 3) := by decide +kernel
theorem dX2_fact_51 : decode cX2_fact 51 = .ok (.dup, 1) := by decide +kernel
theorem dX2_fact_52 : decode cX2_fact 52 = .ok (.iload_n 1, 1) := by decide +kernel
theorem dX2_fact_53 : decode cX2_fact 53 = .ok (.iload_n 2, 1) := by decide +kernel
theorem dX2_fact_54 : decode cX2_fact 54 = .ok (.i2c, 1) := by decide +kernel
theorem dX2_fact_55 : decode cX2_fact 55 = .ok (.aload_n 0, 1) := by decide +kernel
theorem dX2_fact_56 : decode cX2_fact 56 = .ok (.invokevirtual 134, 3) := by decide +kernel
theorem dX2_fact_59 : decode cX2_fact 59 = .ok (.invokespecial 173, 3) := by decide +kernel
theorem dX2_fact_62 : decode cX2_fact 62 = .ok (.areturn, 1) := by decide +kernel
theorem dX2_name_0 : decode cX2_name 0 = .ok (.aload_n 0, 1) := by decide +kernel
theorem dX2_name_1 : decode cX2_name 1 = .ok (.iconst 0, 1) := by decide +kernel
theorem dX2_name_2 : decode cX2_name 2 = .ok (.putfield 176, 3) := by decide +kernel
theorem dX2_name_5 : decode cX2_name 5 = .ok (.iconst 1, 1) := by decide +kernel
theorem dX2_name_6 : decode cX2_name 6 = .ok (.istore_n 2, 1) := by decide +kernel
theorem dX2_name_7 : decode cX2_name 7 = .ok (.iconst 0, 1) := by decide +kernel
theorem dX2_name_8 : decode cX2_name 8 = .ok (.istore_n 3, 1) := by decide +kernel
theorem dX2_name_9 : decode cX2_name 9 = .ok (.iload_n 3, 1) := by decide +kernel
theorem dX2_name_10 : decode cX2_name 10 = .ok (.iload_n 1, 1) := by decide +kernel
theorem dX2_name_11 : decode cX2_name 11 = .ok (.if_icmp .ge 126, 3) := by decide +kernel
theorem dX2_name_14 : decode cX2_name 14 = .ok (.aload_n 0, 1) := by decide +kernel
theorem dX2_name_15 : decode cX2_name 15 = .ok (.getfield 9, 3) := by decide +kernel
theorem dX2_name_18 : decode cX2_name 18 = .ok (.iload_n 3, 1) := by decide +kernel
theorem dX2_name_19 : decode cX2_name 19 = .ok (.baload, 1) := by decide +kernel
theorem dX2_name_20 : decode cX2_name 20 = .ok (.sipush 255, 3) := by decide +kernel
theorem dX2_name_23 : decode cX2_name 23 = .ok (.iand, 1) := by decide +kernel
theorem dX2_name_24 : decode cX2_name 24 = .ok (.invokestatic 179, 3) := by decide +kernel
theorem dX2_name_27 : decode cX2_name 27 = .ok (.istore 4, 2) := by decide +kernel
theorem dX2_name_29 : decode cX2_name 29 = .ok (.iload 4, 2) := by decide +kernel
theorem dX2_name_31 : decode cX2_name 31 = .ok (.ifCond .eq 20, 3) := by decide +kernel
theorem dX2_name_34 : decode cX2_name 34 = .ok (.iload_n 3, 1) := by decide +kernel
theorem dX2_name_35 : decode cX2_name 35 = .ok (.bipush 24, 2) := by decide +kernel
theorem dX2_name_37 : decode cX2_name 37 = .ok (.if_icmp .eq 14, 3) := by decide +kernel
theorem dX2_name_40 : decode cX2_name 40 = .ok (.iload 4, 2) := by decide +kernel
theorem dX2_name_42 : decode cX2_name 42 = .ok (.bipush 60, 2) := by decide +kernel
theorem dX2_name_44 : decode cX2_name 44 = .ok (.if_icmp .ne 12, 3) := by decide +kernel
theorem dX2_name_47 : decode cX2_name 47 = .ok (.iload_n 2, 1) := by decide +kernel
theorem dX2_name_48 : decode cX2_name 48 = .ok (.ifCond .eq 8, 3) := by decide +kernel
theorem dX2_name_51 : decode cX2_name 51 = .ok (.aload_n 0, 1) := by decide +kernel
theorem dX2_name_52 : decode cX2_name 52 = .ok (.iload_n 3, 1) := by decide +kernel
theorem dX2_name_53 : decode cX2_name 53 = .ok (.invokevirtual 114, 3) := by decide +kernel
theorem dX2_name_56 : decode cX2_name 56 = .ok (.iload 4, 2) := by decide +kernel
theorem dX2_name_58 : decode cX2_name 58 = .ok (.bipush 60, 2) := by decide +kernel
theorem dX2_name_60 : decode cX2_name 60 = .ok (.if_icmp .ne 7, 3) := by decide +kernel
theorem dX2_name_63 : decode cX2_name 63 = .ok (.iconst 1, 1) := by decide +kernel
theorem dX2_name_64 : decode cX2_name 64 = .ok (.goto 4, 3) := by decide +kernel
theorem dX2_name_67 : decode cX2_name 67 = .ok (.iconst 0, 1) := by decide +kernel
theorem dX2_name_68 : decode cX2_name 68 = .ok (.istore_n 2, 1) := by decide +kernel
theorem dX2_name_69 : decode cX2_name 69 = .ok (.aload_n 0, 1) := by decide +kernel
theorem dX2_name_70 : decode cX2_name 70 = .ok (.getfield 79, 3) := by decide +kernel
theorem dX2_name_73 : decode cX2_name 73 = .ok (.aload_n 0, 1) := by decide +kernel
theorem dX2_name_74 : decode cX2_name 74 = .ok (.getfield 176, 3) := by decide +kernel
theorem dX2_name_77 : decode cX2_name 77 = .ok (.iload 4, 2) := by decide +kernel
theorem dX2_name_79 : decode cX2_name 79 = .ok (.sipush 255, 3) := by decide +kernel
theorem dX2_name_82 : decode cX2_name 82 = .ok (.iand, 1) := by decide +kernel
theorem dX2_name_83 : decode cX2_name 83 = .ok (.i2b, 1) := by decide +kernel
theorem dX2_name_84 : decode cX2_name 84 = .ok (.bastore, 1) := by decide +kernel
theorem dX2_name_85 : decode cX2_name 85 = .ok (.aload_n 0, 1) := by decide +kernel
theorem dX2_name_86 : decode cX2_name 86 = .ok (.dup, 1) := by decide +kernel
theorem dX2_name_87 : decode cX2_name 87 = .ok (.getfield 176, 3) := by decide +kernel
theorem dX2_name_90 : decode cX2_name 90 = .ok (.iconst 1, 1) := by decide +kernel
theorem dX2_name_91 : decode cX2_name 91 = .ok (.iadd, 1) := by decide +kernel
theorem dX2_name_92 : decode cX2_name 92 = .ok (.putfield 176, 3) := by decide +kernel
theorem dX2_name_95 : decode cX2_name 95 = .ok (.iload 4, 2) := by decide +kernel
theorem dX2_name_97 : decode cX2_name 97 = .ok (.sipush 256, 3) := by decide +kernel
theorem dX2_name_100 : decode cX2_name 100 = .ok (.if_icmp .ge 6, 3) := by decide +kernel
theorem dX2_name_103 : decode cX2_name 103 = .ok (.goto 28, 3) := by decide +kernel
theorem dX2_name_106 : decode cX2_name 106 = .ok (.aload_n 0, 1) := by decide +kernel
theorem dX2_name_107 : decode cX2_name 107 = .ok (.getfield 79, 3) := by decide +kernel
theorem dX2_name_110 : decode cX2_name 110 = .ok (.aload_n 0, 1) := by decide +kernel
theorem dX2_name_111 : decode cX2_name 111 = .ok (.getfield 176, 3) := by decide +kernel
theorem dX2_name_114 : decode cX2_name 114 = .ok (.iload 4, 2) := by decide +kernel
theorem dX2_name_116 : decode cX2_name 116 = .ok (.bipush 8, 2) := by decide +kernel
theorem dX2_name_118 : decode cX2_name 118 = .ok (.ishr, 1) := by decide +kernel
theorem dX2_name_119 : decode cX2_name 119 = .ok (.i2b, 1) := by decide +kernel
theorem dX2_name_120 : decode cX2_name 120 = .ok (.bastore, 1) := by decide +kernel
theorem dX2_name_121 : decode cX2_name 121 = .ok (.aload_n 0, 1) := by decide +kernel
theorem dX2_name_122 : decode cX2_name 122 = .ok (.dup, 1) := by decide +kernel
theorem dX2_name_123 : decode cX2_name 123 = .ok (.getfield 176, 3) := by decide +kernel
theorem dX2_name_126 : decode cX2_name 126 = .ok (.iconst 1, 1) := by decide +kernel
theorem dX2_name_127 : decode cX2_name 127 = .ok (.iadd, 1) := by decide +kernel
theorem dX2_name_128 : decode cX2_name 128 = .ok (.putfield 176, 3) := by decide +kernel
theorem dX2_name_131 : decode cX2_name 131 = .ok (.iinc 3 1, 3) := by decide +kernel
theorem dX2_name_134 : decode cX2_name 134 = .ok (.goto (-125), 3) := by decide +kernel
theorem dX2_name_137 : decode cX2_name 137 = .ok (.iload_n 2, 1) := by decide +kernel
theorem dX2_name_138 : decode cX2_name 138 = .ok (.ifCond .eq 8, 3) := by decide +kernel
theorem dX2_name_141 : decode cX2_name 141 = .ok (.aload_n 0, 1) := by decide +kernel
theorem dX2_name_142 : decode cX2_name 142 = .ok (.iload_n 1, 1) := by decide +kernel
theorem dX2_name_143 : decode cX2_name 143 = .ok (.invokevirtual 114, 3) := by decide +kernel
theorem dX2_name_146 : decode cX2_name 146 = .ok (.aload_n 0, 1) := by decide +kernel
theorem dX2_name_147 : decode cX2_name 147 = .ok (.getfield 176, 3) := by decide +kernel
theorem dX2_name_150 : decode cX2_name 150 = .ok (.ireturn, 1) := by decide +kernel
theorem dX2_turn_0 : decode cX2_turn 0 = .ok (.iload_n 0, 1) := by decide +kernel
theorem dX2_turn_1 : decode cX2_turn 1 = .ok (.bipush 97, 2) := by decide +kernel
theorem dX2_turn_3 : decode cX2_turn 3 = .ok (.if_icmp .lt 17, 3) := by decide +kernel
theorem dX2_turn_6 : decode cX2_turn 6 = .ok (.iload_n 0, 1) := by decide +kernel
theorem dX2_turn_7 : decode cX2_turn 7 = .ok (.bipush 122, 2) := by decide +kernel
theorem dX2_turn_9 : decode cX2_turn 9 = .ok (.if_icmp .gt 11, 3) := by decide +kernel
theorem dX2_turn_12 : decode cX2_turn 12 = .ok (.iload_n 0, 1) := by decide +kernel
theorem dX2_turn_13 : decode cX2_turn 13 = .ok (.bipush 97, 2) := by decide +kernel
theorem dX2_turn_15 : decode cX2_turn 15 = .ok (.isub, 1) := by decide +kernel
theorem dX2_turn_16 : decode cX2_turn 16 = .ok (.bipush 65, 2) := by decide +kernel
theorem dX2_turn_18 : decode cX2_turn 18 = .ok (.iadd, 1) := by decide +kernel
theorem dX2_turn_19 : decode cX2_turn 19 = .ok (.ireturn, 1) := by decide +kernel
theorem dX2_turn_20 : decode cX2_turn 20 = .ok (.iload_n 0, 1) := by decide +kernel
theorem dX2_turn_21 : decode cX2_turn 21 = .ok (.bipush 65, 2) := by decide +kernel
theorem dX2_turn_23 : decode cX2_turn 23 = .ok (.if_icmp .lt 11, 3) := by decide +kernel
theorem dX2_turn_26 : decode cX2_turn 26 = .ok (.iload_n 0, 1) := by decide +kernel
theorem dX2_turn_27 : decode cX2_turn 27 = .ok (.bipush 90, 2) := by decide +kernel
theorem dX2_turn_29 : decode cX2_turn 29 = .ok (.if_icmp .gt 5, 3) := by decide +kernel
theorem dX2_turn_32 : decode cX2_turn 32 = .ok (.iload_n 0, 1) := by decide +kernel
theorem dX2_turn_33 : decode cX2_turn 33 = .ok (.ireturn, 1) := by decide +kernel
theorem dX2_turn_34 : decode cX2_turn 34 = .ok (.iload_n 0, 1) := by decide +kernel
theorem dX2_turn_35 : decode cX2_turn 35 = .ok (.lookupswitch 225 #[(32, 193), (45, 193), (196, 196), (197, 212), (198, 196), (199, 222), (200, 219), (201, 219), (209, 216), (214, 200), (216, 200), (220, 204), (223, 208), (228, 196), (229, 212), (230, 196), (231, 222), (232, 219), (233, 219), (241, 216), (246, 200), (248, 200), (252, 204)], 193) := by decide +kernel
theorem dX2_turn_228 : decode cX2_turn 228 = .ok (.bipush 60, 2) := by decide +kernel
theorem dX2_turn_230 : decode cX2_turn 230 = .ok (.ireturn, 1) := by decide +kernel
theorem dX2_turn_231 : decode cX2_turn 231 = .ok (.sipush 17729, 3) := by decide +kernel
theorem dX2_turn_234 : decode cX2_turn 234 = .ok (.ireturn, 1) := by decide +kernel
theorem dX2_turn_235 : decode cX2_turn 235 = .ok (.sipush 17743, 3) := by decide +kernel
theorem dX2_turn_238 : decode cX2_turn 238 = .ok (.ireturn, 1) := by decide +kernel
theorem dX2_turn_239 : decode cX2_turn 239 = .ok (.sipush 17749, 3) := by decide +kernel
theorem dX2_turn_242 : decode cX2_turn 242 = .ok (.ireturn, 1) := by decide +kernel
theorem dX2_turn_243 : decode cX2_turn 243 = .ok (.sipush 21331, 3) := by decide +kernel
theorem dX2_turn_246 : decode cX2_turn 246 = .ok (.ireturn, 1) := by decide +kernel
theorem dX2_turn_247 : decode cX2_turn 247 = .ok (.sipush 16705, 3) := by decide +kernel
theorem dX2_turn_250 : decode cX2_turn 250 = .ok (.ireturn, 1) := by decide +kernel
theorem dX2_turn_251 : decode cX2_turn 251 = .ok (.bipush 78, 2) := by decide +kernel
theorem dX2_turn_253 : decode cX2_turn 253 = .ok (.ireturn, 1) := by decide +kernel
theorem dX2_turn_254 : decode cX2_turn 254 = .ok (.bipush 69, 2) := by decide +kernel
theorem dX2_turn_256 : decode cX2_turn 256 = .ok (.ireturn, 1) := by decide +kernel
theorem dX2_turn_257 : decode cX2_turn 257 = .ok (.bipush 67, 2) := by decide +kernel
theorem dX2_turn_259 : decode cX2_turn 259 = .ok (.ireturn, 1) := by decide +kernel
theorem dX2_turn_260 : decode cX2_turn 260 = .ok (.iconst 0, 1) := by decide +kernel
theorem dX2_turn_261 : decode cX2_turn 261 = .ok (.ireturn, 1) := by decide +kernel
theorem dX3_init_0 : decode cX3_init 0 = .ok (.aload_n 0, 1) := by decide +kernel
theorem dX3_init_1 : decode cX3_init 1 = .ok (.aconst_null, 1) := by decide +kernel
theorem dX3_init_2 : decode cX3_init 2 = .ok (.aconst_null, 1) := by decide +kernel
theorem dX3_init_3 : decode cX3_init 3 = .ok (.iconst 0, 1) := by decide +kernel
theorem dX3_init_4 : decode cX3_init 4 = .ok (.iconst 0, 1) := by decide +kernel
theorem dX3_init_5 : decode cX3_init 5 = .ok (.invokespecial 1, 3) := by decide +kernel
theorem dX3_init_8 : decode cX3_init 8 = .ok (.return_, 1) := by decide +kernel
theorem dX4_init_0 : decode cX4_init 0 = .ok (.aload_n 0, 1) := by decide +kernel
theorem dX4_init_1 : decode cX4_init 1 = .ok (.invokespecial 3, 3) := by decide +kernel
theorem dX4_init_4 : decode cX4_init 4 = .ok (.aload_n 0, 1) := by decide +kernel
theorem dX4_init_5 : decode cX4_init 5 = .ok (.bipush 120, 2) := by decide +kernel
theorem dX4_init_7 : decode cX4_init 7 = .ok (.anewarray 9, 3) := by decide +kernel
theorem dX4_init_10 : decode cX4_init 10 = .ok (.putfield 11, 3) := by decide +kernel
theorem dX4_init_13 : decode cX4_init 13 = .ok (.return_, 1) := by decide +kernel
theorem dX4_be_0 : decode cX4_be 0 = .ok (.iconst 0, 1) := by decide +kernel
theorem dX4_be_1 : decode cX4_be 1 = .ok (.istore_n 3, 1) := by decide +kernel
theorem dX4_be_2 : decode cX4_be 2 = .ok (.iload_n 3, 1) := by decide +kernel
theorem dX4_be_3 : decode cX4_be 3 = .ok (.iload_n 2, 1) := by decide +kernel
theorem dX4_be_4 : decode cX4_be 4 = .ok (.if_icmp .ge 46, 3) := by decide +kernel
theorem dX4_be_7 : decode cX4_be 7 = .ok (.aload_n 0, 1) := by decide +kernel
theorem dX4_be_8 : decode cX4_be 8 = .ok (.getfield 11, 3) := by decide +kernel
theorem dX4_be_11 : decode cX4_be 11 = .ok (.iload_n 3, 1) := by decide +kernel
theorem dX4_be_12 : decode cX4_be 12 = .ok (.aaload, 1) := by decide +kernel
theorem dX4_be_13 : decode cX4_be 13 = .ok (.ifnonnull 16, 3) := by decide +kernel
theorem dX4_be_16 : decode cX4_be 16 = .ok (.aload_n 0, 1) := by decide +kernel
theorem dX4_be_17 : decode cX4_be 17 = .ok (.getfield 11, 3) := by decide +kernel
theorem dX4_be_20 : decode cX4_be 20 = .ok (.iload_n 3, 1) := by decide +kernel
theorem dX4_be_21 : decode cX4_be 21 = .ok (.new 9, 3) := by decide +kernel
theorem dX4_be_24 : decode cX4_be 24 = .ok (.dup, 1) := by decide +kernel
theorem dX4_be_25 : decode cX4_be 25 = .ok (.invokespecial 17, 3) := by decide +kernel
theorem dX4_be_28 : decode cX4_be 28 = .ok (.aastore, 1) := by decide +kernel
theorem dX4_be_29 : decode cX4_be 29 = .ok (.aload_n 0, 1) := by decide +kernel
theorem dX4_be_30 : decode cX4_be 30 = .ok (.getfield 11, 3) := by decide +kernel
theorem dX4_be_33 : decode cX4_be 33 = .ok (.iload_n 3, 1) := by decide +kernel
theorem dX4_be_34 : decode cX4_be 34 = .ok (.aaload, 1) := by decide +kernel
theorem dX4_be_35 : decode cX4_be 35 = .ok (.aload_n 1, 1) := by decide +kernel
theorem dX4_be_36 : decode cX4_be 36 = .ok (.getfield 11, 3) := by decide +kernel
theorem dX4_be_39 : decode cX4_be 39 = .ok (.iload_n 3, 1) := by decide +kernel
theorem dX4_be_40 : decode cX4_be 40 = .ok (.aaload, 1) := by decide +kernel
theorem dX4_be_41 : decode cX4_be 41 = .ok (.invokevirtual 18, 3) := by decide +kernel
theorem dX4_be_44 : decode cX4_be 44 = .ok (.iinc 3 1, 3) := by decide +kernel
theorem dX4_be_47 : decode cX4_be 47 = .ok (.goto (-45), 3) := by decide +kernel
theorem dX4_be_50 : decode cX4_be 50 = .ok (.aload_n 0, 1) := by decide +kernel
theorem dX4_be_51 : decode cX4_be 51 = .ok (.aload_n 1, 1) := by decide +kernel
theorem dX4_be_52 : decode cX4_be 52 = .ok (.getfield 22, 3) := by decide +kernel
theorem dX4_be_55 : decode cX4_be 55 = .ok (.putfield 22, 3) := by decide +kernel
theorem dX4_be_58 : decode cX4_be 58 = .ok (.aload_n 0, 1) := by decide +kernel
theorem dX4_be_59 : decode cX4_be 59 = .ok (.aload_n 1, 1) := by decide +kernel
theorem dX4_be_60 : decode cX4_be 60 = .ok (.getfield 26, 3) := by decide +kernel
theorem dX4_be_63 : decode cX4_be 63 = .ok (.putfield 26, 3) := by decide +kernel
theorem dX4_be_66 : decode cX4_be 66 = .ok (.aload_n 0, 1) := by decide +kernel
theorem dX4_be_67 : decode cX4_be 67 = .ok (.aload_n 1, 1) := by decide +kernel
theorem dX4_be_68 : decode cX4_be 68 = .ok (.getfield 29, 3) := by decide +kernel
theorem dX4_be_71 : decode cX4_be 71 = .ok (.putfield 29, 3) := by decide +kernel
theorem dX4_be_74 : decode cX4_be 74 = .ok (.aload_n 0, 1) := by decide +kernel
theorem dX4_be_75 : decode cX4_be 75 = .ok (.aload_n 1, 1) := by decide +kernel
theorem dX4_be_76 : decode cX4_be 76 = .ok (.getfield 32, 3) := by decide +kernel
theorem dX4_be_79 : decode cX4_be 79 = .ok (.putfield 32, 3) := by decide +kernel
theorem dX4_be_82 : decode cX4_be 82 = .ok (.aload_n 0, 1) := by decide +kernel
theorem dX4_be_83 : decode cX4_be 83 = .ok (.aload_n 1, 1) := by decide +kernel
theorem dX4_be_84 : decode cX4_be 84 = .ok (.getfield 35, 3) := by decide +kernel
theorem dX4_be_87 : decode cX4_be 87 = .ok (.putfield 35, 3) := by decide +kernel
theorem dX4_be_90 : decode cX4_be 90 = .ok (.return_, 1) := by decide +kernel
theorem dX6_init_0 : decode cX6_init 0 = .ok (.aload_n 0, 1) := by decide +kernel
theorem dX6_init_1 : decode cX6_init 1 = .ok (.invokespecial 1, 3) := by decide +kernel
theorem dX6_init_4 : decode cX6_init 4 = .ok (.aload_n 0, 1) := by decide +kernel
theorem dX6_init_5 : decode cX6_init 5 = .ok (.iload_n 1, 1) := by decide +kernel
theorem dX6_init_6 : decode cX6_init 6 = .ok (.putfield 7, 3) := by decide +kernel
theorem dX6_init_9 : decode cX6_init 9 = .ok (.aload_n 0, 1) := by decide +kernel
theorem dX6_init_10 : decode cX6_init 10 = .ok (.iload_n 2, 1) := by decide +kernel
theorem dX6_init_11 : decode cX6_init 11 = .ok (.putfield 13, 3) := by decide +kernel
theorem dX6_init_14 : decode cX6_init 14 = .ok (.aload_n 0, 1) := by decide +kernel
theorem dX6_init_15 : decode cX6_init 15 = .ok (.aload_n 3, 1) := by decide +kernel
theorem dX6_init_16 : decode cX6_init 16 = .ok (.putfield 16, 3) := by decide +kernel
theorem dX6_init_19 : decode cX6_init 19 = .ok (.return_, 1) := by decide +kernel
theorem dX7_init_0 : decode cX7_init 0 = .ok (.aload_n 0, 1) := by decide +kernel
theorem dX7_init_1 : decode cX7_init 1 = .ok (.invokespecial 1, 3) := by decide +kernel
theorem dX7_init_4 : decode cX7_init 4 = .ok (.return_, 1) := by decide +kernel
theorem dX8_init_0 : decode cX8_init 0 = .ok (.aload_n 0, 1) := by decide +kernel
theorem dX8_init_1 : decode cX8_init 1 = .ok (.invokespecial 1, 3) := by decide +kernel
theorem dX8_init_4 : decode cX8_init 4 = .ok (.aload_n 0, 1) := by decide +kernel
theorem dX8_init_5 : decode cX8_init 5 = .ok (.iload_n 1, 1) := by decide +kernel
theorem dX8_init_6 : decode cX8_init 6 = .ok (.putfield 7, 3) := by decide +kernel
theorem dX8_init_9 : decode cX8_init 9 = .ok (.aload_n 0, 1) := by decide +kernel
theorem dX8_init_10 : decode cX8_init 10 = .ok (.iload_n 2, 1) := by decide +kernel
theorem dX8_init_11 : decode cX8_init 11 = .ok (.putfield 13, 3) := by decide +kernel
theorem dX8_init_14 : decode cX8_init 14 = .ok (.aload_n 0, 1) := by decide +kernel
theorem dX8_init_15 : decode cX8_init 15 = .ok (.iload_n 3, 1) := by decide +kernel
theorem dX8_init_16 : decode cX8_init 16 = .ok (.putfield 17, 3) := by decide +kernel
theorem dX8_init_19 : decode cX8_init 19 = .ok (.return_, 1) := by decide +kernel
theorem dX8_holds_0 : decode cX8_holds 0 = .ok (.aload_n 1, 1) := by decide +kernel
theorem dX8_holds_1 : decode cX8_holds 1 = .ok (.aload_n 0, 1) := by decide +kernel
theorem dX8_holds_2 : decode cX8_holds 2 = .ok (.getfield 7, 3) := by decide +kernel
theorem dX8_holds_5 : decode cX8_holds 5 = .ok (.iaload, 1) := by decide +kernel
theorem dX8_holds_6 : decode cX8_holds 6 = .ok (.istore_n 2, 1) := by decide +kernel
theorem dX8_holds_7 : decode cX8_holds 7 = .ok (.aload_n 0, 1) := by decide +kernel
theorem dX8_holds_8 : decode cX8_holds 8 = .ok (.getfield 13, 3) := by decide +kernel
theorem dX8_holds_11 : decode cX8_holds 11 = .ok (.bipush 60, 2) := by decide +kernel
theorem dX8_holds_13 : decode cX8_holds 13 = .ok (.if_icmp .ne 19, 3) := by decide +kernel
theorem dX8_holds_16 : decode cX8_holds 16 = .ok (.iload_n 2, 1) := by decide +kernel
theorem dX8_holds_17 : decode cX8_holds 17 = .ok (.aload_n 0, 1) := by decide +kernel
theorem dX8_holds_18 : decode cX8_holds 18 = .ok (.getfield 17, 3) := by decide +kernel
theorem dX8_holds_21 : decode cX8_holds 21 = .ok (.if_icmp .ge 7, 3) := by decide +kernel
theorem dX8_holds_24 : decode cX8_holds 24 = .ok (.iconst 1, 1) := by decide +kernel
theorem dX8_holds_25 : decode cX8_holds 25 = .ok (.goto 41, 3) := by decide +kernel
theorem dX8_holds_28 : decode cX8_holds 28 = .ok (.iconst 0, 1) := by decide +kernel
theorem dX8_holds_29 : decode cX8_holds 29 = .ok (.goto 37, 3) := by decide +kernel
theorem dX8_holds_32 : decode cX8_holds 32 = .ok (.aload_n 0, 1) := by decide +kernel
theorem dX8_holds_33 : decode cX8_holds 33 = .ok (.getfield 13, 3) := by decide +kernel
theorem dX8_holds_36 : decode cX8_holds 36 = .ok (.bipush 62, 2) := by decide +kernel
theorem dX8_holds_38 : decode cX8_holds 38 = .ok (.if_icmp .ne 19, 3) := by decide +kernel
theorem dX8_holds_41 : decode cX8_holds 41 = .ok (.iload_n 2, 1) := by decide +kernel
theorem dX8_holds_42 : decode cX8_holds 42 = .ok (.aload_n 0, 1) := by decide +kernel
theorem dX8_holds_43 : decode cX8_holds 43 = .ok (.getfield 17, 3) := by decide +kernel
theorem dX8_holds_46 : decode cX8_holds 46 = .ok (.if_icmp .le 7, 3) := by decide +kernel
theorem dX8_holds_49 : decode cX8_holds 49 = .ok (.iconst 1, 1) := by decide +kernel
theorem dX8_holds_50 : decode cX8_holds 50 = .ok (.goto 16, 3) := by decide +kernel
theorem dX8_holds_53 : decode cX8_holds 53 = .ok (.iconst 0, 1) := by decide +kernel
theorem dX8_holds_54 : decode cX8_holds 54 = .ok (.goto 12, 3) := by decide +kernel
theorem dX8_holds_57 : decode cX8_holds 57 = .ok (.iload_n 2, 1) := by decide +kernel
theorem dX8_holds_58 : decode cX8_holds 58 = .ok (.ifCond .eq 7, 3) := by decide +kernel
theorem dX8_holds_61 : decode cX8_holds 61 = .ok (.iconst 1, 1) := by decide +kernel
theorem dX8_holds_62 : decode cX8_holds 62 = .ok (.goto 4, 3) := by decide +kernel
theorem dX8_holds_65 : decode cX8_holds 65 = .ok (.iconst 0, 1) := by decide +kernel
theorem dX8_holds_66 : decode cX8_holds 66 = .ok (.ireturn, 1) := by decide +kernel
theorem dX9_init_0 : decode cX9_init 0 = .ok (.aload_n 0, 1) := by decide +kernel
theorem dX9_init_1 : decode cX9_init 1 = .ok (.invokespecial 1, 3) := by decide +kernel
theorem dX9_init_4 : decode cX9_init 4 = .ok (.aload_n 0, 1) := by decide +kernel
theorem dX9_init_5 : decode cX9_init 5 = .ok (.aload_n 1, 1) := by decide +kernel
theorem dX9_init_6 : decode cX9_init 6 = .ok (.putfield 7, 3) := by decide +kernel
theorem dX9_init_9 : decode cX9_init 9 = .ok (.return_, 1) := by decide +kernel
theorem dX9_holds_0 : decode cX9_holds 0 = .ok (.aload_n 0, 1) := by decide +kernel
theorem dX9_holds_1 : decode cX9_holds 1 = .ok (.getfield 7, 3) := by decide +kernel
theorem dX9_holds_4 : decode cX9_holds 4 = .ok (.aload_n 1, 1) := by decide +kernel
theorem dX9_holds_5 : decode cX9_holds 5 = .ok (.invokevirtual 13, 3) := by decide +kernel
theorem dX9_holds_8 : decode cX9_holds 8 = .ok (.ifCond .ne 7, 3) := by decide +kernel
theorem dX9_holds_11 : decode cX9_holds 11 = .ok (.iconst 1, 1) := by decide +kernel
theorem dX9_holds_12 : decode cX9_holds 12 = .ok (.goto 4, 3) := by decide +kernel
theorem dX9_holds_15 : decode cX9_holds 15 = .ok (.iconst 0, 1) := by decide +kernel
theorem dX9_holds_16 : decode cX9_holds 16 = .ok (.ireturn, 1) := by decide +kernel
theorem dX10_init_0 : decode cX10_init 0 = .ok (.aload_n 0, 1) := by decide +kernel
theorem dX10_init_1 : decode cX10_init 1 = .ok (.invokespecial 1, 3) := by decide +kernel
theorem dX10_init_4 : decode cX10_init 4 = .ok (.aload_n 0, 1) := by decide +kernel
theorem dX10_init_5 : decode cX10_init 5 = .ok (.aload_n 1, 1) := by decide +kernel
theorem dX10_init_6 : decode cX10_init 6 = .ok (.putfield 7, 3) := by decide +kernel
theorem dX10_init_9 : decode cX10_init 9 = .ok (.aload_n 0, 1) := by decide +kernel
theorem dX10_init_10 : decode cX10_init 10 = .ok (.aload_n 2, 1) := by decide +kernel
theorem dX10_init_11 : decode cX10_init 11 = .ok (.putfield 13, 3) := by decide +kernel
theorem dX10_init_14 : decode cX10_init 14 = .ok (.aload_n 0, 1) := by decide +kernel
theorem dX10_init_15 : decode cX10_init 15 = .ok (.iload_n 3, 1) := by decide +kernel
theorem dX10_init_16 : decode cX10_init 16 = .ok (.putfield 16, 3) := by decide +kernel
theorem dX10_init_19 : decode cX10_init 19 = .ok (.return_, 1) := by decide +kernel
theorem dX10_holds_0 : decode cX10_holds 0 = .ok (.aload_n 0, 1) := by decide +kernel
theorem dX10_holds_1 : decode cX10_holds 1 = .ok (.getfield 16, 3) := by decide +kernel
theorem dX10_holds_4 : decode cX10_holds 4 = .ok (.ifCond .eq 33, 3) := by decide +kernel
theorem dX10_holds_7 : decode cX10_holds 7 = .ok (.aload_n 0, 1) := by decide +kernel
theorem dX10_holds_8 : decode cX10_holds 8 = .ok (.getfield 7, 3) := by decide +kernel
theorem dX10_holds_11 : decode cX10_holds 11 = .ok (.aload_n 1, 1) := by decide +kernel
theorem dX10_holds_12 : decode cX10_holds 12 = .ok (.invokevirtual 20, 3) := by decide +kernel
theorem dX10_holds_15 : decode cX10_holds 15 = .ok (.ifCond .eq 18, 3) := by decide +kernel
theorem dX10_holds_18 : decode cX10_holds 18 = .ok (.aload_n 0, 1) := by decide +kernel
theorem dX10_holds_19 : decode cX10_holds 19 = .ok (.getfield 13, 3) := by decide +kernel
theorem dX10_holds_22 : decode cX10_holds 22 = .ok (.aload_n 1, 1) := by decide +kernel
theorem dX10_holds_23 : decode cX10_holds 23 = .ok (.invokevirtual 20, 3) := by decide +kernel
theorem dX10_holds_26 : decode cX10_holds 26 = .ok (.ifCond .eq 7, 3) := by decide +kernel
theorem dX10_holds_29 : decode cX10_holds 29 = .ok (.iconst 1, 1) := by decide +kernel
theorem dX10_holds_30 : decode cX10_holds 30 = .ok (.goto 34, 3) := by decide +kernel
theorem dX10_holds_33 : decode cX10_holds 33 = .ok (.iconst 0, 1) := by decide +kernel
theorem dX10_holds_34 : decode cX10_holds 34 = .ok (.goto 30, 3) := by decide +kernel
theorem dX10_holds_37 : decode cX10_holds 37 = .ok (.aload_n 0, 1) := by decide +kernel
theorem dX10_holds_38 : decode cX10_holds 38 = .ok (.getfield 7, 3) := by decide +kernel
theorem dX10_holds_41 : decode cX10_holds 41 = .ok (.aload_n 1, 1) := by decide +kernel
theorem dX10_holds_42 : decode cX10_holds 42 = .ok (.invokevirtual 20, 3) := by decide +kernel
theorem dX10_holds_45 : decode cX10_holds 45 = .ok (.ifCond .ne 14, 3) := by decide +kernel
theorem dX10_holds_48 : decode cX10_holds 48 = .ok (.aload_n 0, 1) := by decide +kernel
theorem dX10_holds_49 : decode cX10_holds 49 = .ok (.getfield 13, 3) := by decide +kernel
theorem dX10_holds_52 : decode cX10_holds 52 = .ok (.aload_n 1, 1) := by decide +kernel
theorem dX10_holds_53 : decode cX10_holds 53 = .ok (.invokevirtual 20, 3) := by decide +kernel
theorem dX10_holds_56 : decode cX10_holds 56 = .ok (.ifCond .eq 7, 3) := by decide +kernel
theorem dX10_holds_59 : decode cX10_holds 59 = .ok (.iconst 1, 1) := by decide +kernel
theorem dX10_holds_60 : decode cX10_holds 60 = .ok (.goto 4, 3) := by decide +kernel
theorem dX10_holds_63 : decode cX10_holds 63 = .ok (.iconst 0, 1) := by decide +kernel
theorem dX10_holds_64 : decode cX10_holds 64 = .ok (.ireturn, 1) := by decide +kernel
theorem dX11_init_0 : decode cX11_init 0 = .ok (.aload_n 0, 1) := by decide +kernel
theorem dX11_init_1 : decode cX11_init 1 = .ok (.invokespecial 3, 3) := by decide +kernel
theorem dX11_init_4 : decode cX11_init 4 = .ok (.aload_n 0, 1) := by decide +kernel
theorem dX11_init_5 : decode cX11_init 5 = .ok (.iload_n 1, 1) := by decide +kernel
theorem dX11_init_6 : decode cX11_init 6 = .ok (.putfield 9, 3) := by decide +kernel
theorem dX11_init_9 : decode cX11_init 9 = .ok (.aload_n 0, 1) := by decide +kernel
theorem dX11_init_10 : decode cX11_init 10 = .ok (.iload_n 3, 1) := by decide +kernel
theorem dX11_init_11 : decode cX11_init 11 = .ok (.putfield 15, 3) := by decide +kernel
theorem dX11_init_14 : decode cX11_init 14 = .ok (.aload_n 0, 1) := by decide +kernel
theorem dX11_init_15 : decode cX11_init 15 = .ok (.iload_n 3, 1) := by decide +kernel
theorem dX11_init_16 : decode cX11_init 16 = .ok (.anewarray 18, 3) := by decide +kernel
theorem dX11_init_19 : decode cX11_init 19 = .ok (.putfield 20, 3) := by decide +kernel
theorem dX11_init_22 : decode cX11_init 22 = .ok (.aload_n 2, 1) := by decide +kernel
theorem dX11_init_23 : decode cX11_init 23 = .ok (.iconst 0, 1) := by decide +kernel
theorem dX11_init_24 : decode cX11_init 24 = .ok (.aload_n 0, 1) := by decide +kernel
theorem dX11_init_25 : decode cX11_init 25 = .ok (.getfield 20, 3) := by decide +kernel
theorem dX11_init_28 : decode cX11_init 28 = .ok (.iconst 0, 1) := by decide +kernel
theorem dX11_init_29 : decode cX11_init 29 = .ok (.iload_n 3, 1) := by decide +kernel
theorem dX11_init_30 : decode cX11_init 30 = .ok (.invokestatic 24, 3) := by decide +kernel
theorem dX11_init_33 : decode cX11_init 33 = .ok (.return_, 1) := by decide +kernel
theorem dX11_rules_0 : decode cX11_rules 0 = .ok (.new 30, 3) := by decide +kernel
theorem dX11_rules_3 : decode cX11_rules 3 = .ok (.dup, 1) := by decide +kernel
theorem dX11_rules_4 : decode cX11_rules 4 = .ok (.invokespecial 32, 3) := by decide +kernel
theorem dX11_rules_7 : decode cX11_rules 7 = .ok (.astore_n 2, 1) := by decide +kernel
theorem dX11_rules_8 : decode cX11_rules 8 = .ok (.iconst (-1), 1) := by decide +kernel
theorem dX11_rules_9 : decode cX11_rules 9 = .ok (.istore_n 3, 1) := by decide +kernel
theorem dX11_rules_10 : decode cX11_rules 10 = .ok (.iconst 0, 1) := by decide +kernel
theorem dX11_rules_11 : decode cX11_rules 11 = .ok (.istore 4, 2) := by decide +kernel
theorem dX11_rules_13 : decode cX11_rules 13 = .ok (.iload 4, 2) := by decide +kernel
theorem dX11_rules_15 : decode cX11_rules 15 = .ok (.aload_n 0, 1) := by decide +kernel
theorem dX11_rules_16 : decode cX11_rules 16 = .ok (.getfield 15, 3) := by decide +kernel
theorem dX11_rules_19 : decode cX11_rules 19 = .ok (.if_icmp .ge 185, 3) := by decide +kernel
theorem dX11_rules_22 : decode cX11_rules 22 = .ok (.aload_n 0, 1) := by decide +kernel
theorem dX11_rules_23 : decode cX11_rules 23 = .ok (.getfield 20, 3) := by decide +kernel
theorem dX11_rules_26 : decode cX11_rules 26 = .ok (.iload 4, 2) := by decide +kernel
theorem dX11_rules_28 : decode cX11_rules 28 = .ok (.aaload, 1) := by decide +kernel
theorem dX11_rules_29 : decode cX11_rules 29 = .ok (.astore 5, 2) := by decide +kernel
theorem dX11_rules_31 : decode cX11_rules 31 = .ok (.aload 5, 2) := by decide +kernel
theorem dX11_rules_33 : decode cX11_rules 33 = .ok (.getfield 33, 3) := by decide +kernel
theorem dX11_rules_36 : decode cX11_rules 36 = .ok (.ifnull 18, 3) := by decide +kernel
theorem dX11_rules_39 : decode cX11_rules 39 = .ok (.aload 5, 2) := by decide +kernel
theorem dX11_rules_41 : decode cX11_rules 41 = .ok (.getfield 33, 3) := by decide +kernel
theorem dX11_rules_44 : decode cX11_rules 44 = .ok (.aload_n 1, 1) := by decide +kernel
theorem dX11_rules_45 : decode cX11_rules 45 = .ok (.invokevirtual 37, 3) := by decide +kernel
theorem dX11_rules_48 : decode cX11_rules 48 = .ok (.ifCond .ne 6, 3) := by decide +kernel
theorem dX11_rules_51 : decode cX11_rules 51 = .ok (.goto 147, 3) := by decide +kernel
theorem dX11_rules_54 : decode cX11_rules 54 = .ok (.aload 5, 2) := by decide +kernel
theorem dX11_rules_56 : decode cX11_rules 56 = .ok (.getfield 43, 3) := by decide +kernel
theorem dX11_rules_59 : decode cX11_rules 59 = .ok (.tableswitch 134 0 4 #[33, 52, 69, 104, 117], 33) := by decide +kernel
theorem dX11_rules_92 : decode cX11_rules 92 = .ok (.aload_n 2, 1) := by decide +kernel
theorem dX11_rules_93 : decode cX11_rules 93 = .ok (.dup, 1) := by decide +kernel
theorem dX11_rules_94 : decode cX11_rules 94 = .ok (.getfield 46, 3) := by decide +kernel
theorem dX11_rules_97 : decode cX11_rules 97 = .ok (.iconst 1, 1) := by decide +kernel
theorem dX11_rules_98 : decode cX11_rules 98 = .ok (.aload 5, 2) := by decide +kernel
theorem dX11_rules_100 : decode cX11_rules 100 = .ok (.getfield 49, 3) := by decide +kernel
theorem dX11_rules_103 : decode cX11_rules 103 = .ok (.ishl, 1) := by decide +kernel
theorem dX11_rules_104 : decode cX11_rules 104 = .ok (.ior, 1) := by decide +kernel
theorem dX11_rules_105 : decode cX11_rules 105 = .ok (.putfield 46, 3) := by decide +kernel
theorem dX11_rules_108 : decode cX11_rules 108 = .ok (.goto 90, 3) := by decide +kernel
theorem dX11_rules_111 : decode cX11_rules 111 = .ok (.aload_n 2, 1) := by decide +kernel
theorem dX11_rules_112 : decode cX11_rules 112 = .ok (.dup, 1) := by decide +kernel
theorem dX11_rules_113 : decode cX11_rules 113 = .ok (.getfield 52, 3) := by decide +kernel
theorem dX11_rules_116 : decode cX11_rules 116 = .ok (.aload 5, 2) := by decide +kernel
theorem dX11_rules_118 : decode cX11_rules 118 = .ok (.getfield 49, 3) := by decide +kernel
theorem dX11_rules_121 : decode cX11_rules 121 = .ok (.iadd, 1) := by decide +kernel
theorem dX11_rules_122 : decode cX11_rules 122 = .ok (.putfield 52, 3) := by decide +kernel
theorem dX11_rules_125 : decode cX11_rules 125 = .ok (.goto 73, 3) := by decide +kernel
theorem dX11_rules_128 : decode cX11_rules 128 = .ok (.aload_n 2, 1) := by decide +kernel
theorem dX11_rules_129 : decode cX11_rules 129 = .ok (.aload_n 2, 1) := by decide +kernel
theorem dX11_rules_130 : decode cX11_rules 130 = .ok (.getfield 55, 3) := by decide +kernel
theorem dX11_rules_133 : decode cX11_rules 133 = .ok (.iconst (-1), 1) := by decide +kernel
theorem dX11_rules_134 : decode cX11_rules 134 = .ok (.if_icmp .ne 11, 3) := by decide +kernel
theorem dX11_rules_137 : decode cX11_rules 137 = .ok (.aload 5, 2) := by decide +kernel
theorem dX11_rules_139 : decode cX11_rules 139 = .ok (.getfield 49, 3) := by decide +kernel
theorem dX11_rules_142 : decode cX11_rules 142 = .ok (.goto 15, 3) := by decide +kernel
theorem dX11_rules_145 : decode cX11_rules 145 = .ok (.aload_n 2, 1) := by decide +kernel
theorem dX11_rules_146 : decode cX11_rules 146 = .ok (.getfield 55, 3) := by decide +kernel
theorem dX11_rules_149 : decode cX11_rules 149 = .ok (.aload 5, 2) := by decide +kernel
theorem dX11_rules_151 : decode cX11_rules 151 = .ok (.getfield 49, 3) := by decide +kernel
theorem dX11_rules_154 : decode cX11_rules 154 = .ok (.invokestatic 58, 3) := by decide +kernel
theorem dX11_rules_157 : decode cX11_rules 157 = .ok (.putfield 55, 3) := by decide +kernel
theorem dX11_rules_160 : decode cX11_rules 160 = .ok (.goto 38, 3) := by decide +kernel
theorem dX11_rules_163 : decode cX11_rules 163 = .ok (.iload_n 3, 1) := by decide +kernel
theorem dX11_rules_164 : decode cX11_rules 164 = .ok (.aload 5, 2) := by decide +kernel
theorem dX11_rules_166 : decode cX11_rules 166 = .ok (.getfield 49, 3) := by decide +kernel
theorem dX11_rules_169 : decode cX11_rules 169 = .ok (.invokestatic 64, 3) := by decide +kernel
theorem dX11_rules_172 : decode cX11_rules 172 = .ok (.istore_n 3, 1) := by decide +kernel
theorem dX11_rules_173 : decode cX11_rules 173 = .ok (.goto 25, 3) := by decide +kernel
theorem dX11_rules_176 : decode cX11_rules 176 = .ok (.aload_n 2, 1) := by decide +kernel
theorem dX11_rules_177 : decode cX11_rules 177 = .ok (.dup, 1) := by decide +kernel
theorem dX11_rules_178 : decode cX11_rules 178 = .ok (.getfield 67, 3) := by decide +kernel
theorem dX11_rules_181 : decode cX11_rules 181 = .ok (.aload 5, 2) := by decide +kernel
theorem dX11_rules_183 : decode cX11_rules 183 = .ok (.getfield 49, 3) := by decide +kernel
theorem dX11_rules_186 : decode cX11_rules 186 = .ok (.iadd, 1) := by decide +kernel
theorem dX11_rules_187 : decode cX11_rules 187 = .ok (.putfield 67, 3) := by decide +kernel
theorem dX11_rules_190 : decode cX11_rules 190 = .ok (.goto 8, 3) := by decide +kernel
theorem dX11_rules_193 : decode cX11_rules 193 = .ok (.aload_n 2, 1) := by decide +kernel
theorem dX11_rules_194 : decode cX11_rules 194 = .ok (.iconst 1, 1) := by decide +kernel
theorem dX11_rules_195 : decode cX11_rules 195 = .ok (.putfield 70, 3) := by decide +kernel
theorem dX11_rules_198 : decode cX11_rules 198 = .ok (.iinc 4 1, 3) := by decide +kernel
theorem dX11_rules_201 : decode cX11_rules 201 = .ok (.goto (-188), 3) := by decide +kernel
theorem dX11_rules_204 : decode cX11_rules 204 = .ok (.iload_n 3, 1) := by decide +kernel
theorem dX11_rules_205 : decode cX11_rules 205 = .ok (.iconst (-1), 1) := by decide +kernel
theorem dX11_rules_206 : decode cX11_rules 206 = .ok (.if_icmp .eq 8, 3) := by decide +kernel
theorem dX11_rules_209 : decode cX11_rules 209 = .ok (.aload_n 2, 1) := by decide +kernel
theorem dX11_rules_210 : decode cX11_rules 210 = .ok (.iload_n 3, 1) := by decide +kernel
theorem dX11_rules_211 : decode cX11_rules 211 = .ok (.putfield 74, 3) := by decide +kernel
theorem dX11_rules_214 : decode cX11_rules 214 = .ok (.aload_n 2, 1) := by decide +kernel
theorem dX11_rules_215 : decode cX11_rules 215 = .ok (.areturn, 1) := by decide +kernel
theorem dX12_init_0 : decode cX12_init 0 = .ok (.aload_n 0, 1) := by decide +kernel
theorem dX12_init_1 : decode cX12_init 1 = .ok (.invokespecial 3, 3) := by decide +kernel
theorem dX12_init_4 : decode cX12_init 4 = .ok (.aload_n 0, 1) := by decide +kernel
theorem dX12_init_5 : decode cX12_init 5 = .ok (.iload_n 1, 1) := by decide +kernel
theorem dX12_init_6 : decode cX12_init 6 = .ok (.putfield 9, 3) := by decide +kernel
theorem dX12_init_9 : decode cX12_init 9 = .ok (.aload_n 0, 1) := by decide +kernel
theorem dX12_init_10 : decode cX12_init 10 = .ok (.iload_n 2, 1) := by decide +kernel
theorem dX12_init_11 : decode cX12_init 11 = .ok (.putfield 15, 3) := by decide +kernel
theorem dX12_init_14 : decode cX12_init 14 = .ok (.aload_n 0, 1) := by decide +kernel
theorem dX12_init_15 : decode cX12_init 15 = .ok (.aload_n 3, 1) := by decide +kernel
theorem dX12_init_16 : decode cX12_init 16 = .ok (.putfield 19, 3) := by decide +kernel
theorem dX12_init_19 : decode cX12_init 19 = .ok (.return_, 1) := by decide +kernel
theorem dX12_far_0 : decode cX12_far 0 = .ok (.iconst 0, 1) := by decide +kernel
theorem dX12_far_1 : decode cX12_far 1 = .ok (.istore_n 2, 1) := by decide +kernel
theorem dX12_far_2 : decode cX12_far 2 = .ok (.iconst 0, 1) := by decide +kernel
theorem dX12_far_3 : decode cX12_far 3 = .ok (.istore_n 3, 1) := by decide +kernel
theorem dX12_far_4 : decode cX12_far 4 = .ok (.iload_n 3, 1) := by decide +kernel
theorem dX12_far_5 : decode cX12_far 5 = .ok (.iconst 5, 1) := by decide +kernel
theorem dX12_far_6 : decode cX12_far 6 = .ok (.if_icmp .ge 39, 3) := by decide +kernel
theorem dX12_far_9 : decode cX12_far 9 = .ok (.iload_n 2, 1) := by decide +kernel
theorem dX12_far_10 : decode cX12_far 10 = .ok (.aload_n 0, 1) := by decide +kernel
theorem dX12_far_11 : decode cX12_far 11 = .ok (.getfield 19, 3) := by decide +kernel
theorem dX12_far_14 : decode cX12_far 14 = .ok (.iload_n 3, 1) := by decide +kernel
theorem dX12_far_15 : decode cX12_far 15 = .ok (.iaload, 1) := by decide +kernel
theorem dX12_far_16 : decode cX12_far 16 = .ok (.aload_n 1, 1) := by decide +kernel
theorem dX12_far_17 : decode cX12_far 17 = .ok (.getfield 19, 3) := by decide +kernel
theorem dX12_far_20 : decode cX12_far 20 = .ok (.iload_n 3, 1) := by decide +kernel
theorem dX12_far_21 : decode cX12_far 21 = .ok (.iaload, 1) := by decide +kernel
theorem dX12_far_22 : decode cX12_far 22 = .ok (.isub, 1) := by decide +kernel
theorem dX12_far_23 : decode cX12_far 23 = .ok (.aload_n 0, 1) := by decide +kernel
theorem dX12_far_24 : decode cX12_far 24 = .ok (.getfield 19, 3) := by decide +kernel
theorem dX12_far_27 : decode cX12_far 27 = .ok (.iload_n 3, 1) := by decide +kernel
theorem dX12_far_28 : decode cX12_far 28 = .ok (.iaload, 1) := by decide +kernel
theorem dX12_far_29 : decode cX12_far 29 = .ok (.aload_n 1, 1) := by decide +kernel
theorem dX12_far_30 : decode cX12_far 30 = .ok (.getfield 19, 3) := by decide +kernel
theorem dX12_far_33 : decode cX12_far 33 = .ok (.iload_n 3, 1) := by decide +kernel
theorem dX12_far_34 : decode cX12_far 34 = .ok (.iaload, 1) := by decide +kernel
theorem dX12_far_35 : decode cX12_far 35 = .ok (.isub, 1) := by decide +kernel
theorem dX12_far_36 : decode cX12_far 36 = .ok (.imul, 1) := by decide +kernel
theorem dX12_far_37 : decode cX12_far 37 = .ok (.iadd, 1) := by decide +kernel
theorem dX12_far_38 : decode cX12_far 38 = .ok (.istore_n 2, 1) := by decide +kernel
theorem dX12_far_39 : decode cX12_far 39 = .ok (.iinc 3 1, 3) := by decide +kernel
theorem dX12_far_42 : decode cX12_far 42 = .ok (.goto (-38), 3) := by decide +kernel
theorem dX12_far_45 : decode cX12_far 45 = .ok (.iload_n 2, 1) := by decide +kernel
theorem dX12_far_46 : decode cX12_far 46 = .ok (.ireturn, 1) := by decide +kernel
theorem dX13_init_0 : decode cX13_init 0 = .ok (.aload_n 0, 1) := by decide +kernel
theorem dX13_init_1 : decode cX13_init 1 = .ok (.invokespecial 3, 3) := by decide +kernel
theorem dX13_init_4 : decode cX13_init 4 = .ok (.aload_n 0, 1) := by decide +kernel
theorem dX13_init_5 : decode cX13_init 5 = .ok (.bipush 10, 2) := by decide +kernel
theorem dX13_init_7 : decode cX13_init 7 = .ok (.putfield 9, 3) := by decide +kernel
theorem dX13_init_10 : decode cX13_init 10 = .ok (.aload_n 0, 1) := by decide +kernel
theorem dX13_init_11 : decode cX13_init 11 = .ok (.iconst (-1), 1) := by decide +kernel
theorem dX13_init_12 : decode cX13_init 12 = .ok (.putfield 15, 3) := by decide +kernel
theorem dX13_init_15 : decode cX13_init 15 = .ok (.return_, 1) := by decide +kernel
theorem dX14_init_0 : decode cX14_init 0 = .ok (.aload_n 0, 1) := by decide +kernel
theorem dX14_init_1 : decode cX14_init 1 = .ok (.invokespecial 1, 3) := by decide +kernel
theorem dX14_init_4 : decode cX14_init 4 = .ok (.aload_n 0, 1) := by decide +kernel
theorem dX14_init_5 : decode cX14_init 5 = .ok (.iload_n 1, 1) := by decide +kernel
theorem dX14_init_6 : decode cX14_init 6 = .ok (.putfield 7, 3) := by decide +kernel
theorem dX14_init_9 : decode cX14_init 9 = .ok (.aload_n 0, 1) := by decide +kernel
theorem dX14_init_10 : decode cX14_init 10 = .ok (.iload_n 2, 1) := by decide +kernel
theorem dX14_init_11 : decode cX14_init 11 = .ok (.putfield 13, 3) := by decide +kernel
theorem dX14_init_14 : decode cX14_init 14 = .ok (.aload_n 0, 1) := by decide +kernel
theorem dX14_init_15 : decode cX14_init 15 = .ok (.iload_n 3, 1) := by decide +kernel
theorem dX14_init_16 : decode cX14_init 16 = .ok (.putfield 16, 3) := by decide +kernel
theorem dX14_init_19 : decode cX14_init 19 = .ok (.aload_n 0, 1) := by decide +kernel
theorem dX14_init_20 : decode cX14_init 20 = .ok (.iload 4, 2) := by decide +kernel
theorem dX14_init_22 : decode cX14_init 22 = .ok (.putfield 19, 3) := by decide +kernel
theorem dX14_init_25 : decode cX14_init 25 = .ok (.aload_n 0, 1) := by decide +kernel
theorem dX14_init_26 : decode cX14_init 26 = .ok (.iload 5, 2) := by decide +kernel
theorem dX14_init_28 : decode cX14_init 28 = .ok (.putfield 22, 3) := by decide +kernel
theorem dX14_init_31 : decode cX14_init 31 = .ok (.aload_n 0, 1) := by decide +kernel
theorem dX14_init_32 : decode cX14_init 32 = .ok (.iload 6, 2) := by decide +kernel
theorem dX14_init_34 : decode cX14_init 34 = .ok (.putfield 25, 3) := by decide +kernel
theorem dX14_init_37 : decode cX14_init 37 = .ok (.aload_n 0, 1) := by decide +kernel
theorem dX14_init_38 : decode cX14_init 38 = .ok (.aload 7, 2) := by decide +kernel
theorem dX14_init_40 : decode cX14_init 40 = .ok (.putfield 29, 3) := by decide +kernel
theorem dX14_init_43 : decode cX14_init 43 = .ok (.return_, 1) := by decide +kernel
theorem dX15_init_0 : decode cX15_init 0 = .ok (.aload_n 0, 1) := by decide +kernel
theorem dX15_init_1 : decode cX15_init 1 = .ok (.invokespecial 3, 3) := by decide +kernel
theorem dX15_init_4 : decode cX15_init 4 = .ok (.aload_n 0, 1) := by decide +kernel
theorem dX15_init_5 : decode cX15_init 5 = .ok (.iconst (-1), 1) := by decide +kernel
theorem dX15_init_6 : decode cX15_init 6 = .ok (.putfield 9, 3) := by decide +kernel
theorem dX15_init_9 : decode cX15_init 9 = .ok (.aload_n 0, 1) := by decide +kernel
theorem dX15_init_10 : decode cX15_init 10 = .ok (.iconst (-1), 1) := by decide +kernel
theorem dX15_init_11 : decode cX15_init 11 = .ok (.putfield 15, 3) := by decide +kernel
theorem dX15_init_14 : decode cX15_init 14 = .ok (.aload_n 0, 1) := by decide +kernel
theorem dX15_init_15 : decode cX15_init 15 = .ok (.iconst (-1), 1) := by decide +kernel
theorem dX15_init_16 : decode cX15_init 16 = .ok (.putfield 18, 3) := by decide +kernel
theorem dX15_init_19 : decode cX15_init 19 = .ok (.aload_n 0, 1) := by decide +kernel
theorem dX15_init_20 : decode cX15_init 20 = .ok (.iconst (-1), 1) := by decide +kernel
theorem dX15_init_21 : decode cX15_init 21 = .ok (.putfield 21, 3) := by decide +kernel
theorem dX15_init_24 : decode cX15_init 24 = .ok (.return_, 1) := by decide +kernel
theorem dX15_be_0 : decode cX15_be 0 = .ok (.aload_n 0, 1) := by decide +kernel
theorem dX15_be_1 : decode cX15_be 1 = .ok (.aload_n 1, 1) := by decide +kernel
theorem dX15_be_2 : decode cX15_be 2 = .ok (.getfield 24, 3) := by decide +kernel
theorem dX15_be_5 : decode cX15_be 5 = .ok (.putfield 24, 3) := by decide +kernel
theorem dX15_be_8 : decode cX15_be 8 = .ok (.aload_n 0, 1) := by decide +kernel
theorem dX15_be_9 : decode cX15_be 9 = .ok (.aload_n 1, 1) := by decide +kernel
theorem dX15_be_10 : decode cX15_be 10 = .ok (.getfield 27, 3) := by decide +kernel
theorem dX15_be_13 : decode cX15_be 13 = .ok (.putfield 27, 3) := by decide +kernel
theorem dX15_be_16 : decode cX15_be 16 = .ok (.aload_n 0, 1) := by decide +kernel
theorem dX15_be_17 : decode cX15_be 17 = .ok (.aload_n 1, 1) := by decide +kernel
theorem dX15_be_18 : decode cX15_be 18 = .ok (.getfield 9, 3) := by decide +kernel
theorem dX15_be_21 : decode cX15_be 21 = .ok (.putfield 9, 3) := by decide +kernel
theorem dX15_be_24 : decode cX15_be 24 = .ok (.aload_n 0, 1) := by decide +kernel
theorem dX15_be_25 : decode cX15_be 25 = .ok (.aload_n 1, 1) := by decide +kernel
theorem dX15_be_26 : decode cX15_be 26 = .ok (.getfield 15, 3) := by decide +kernel
theorem dX15_be_29 : decode cX15_be 29 = .ok (.putfield 15, 3) := by decide +kernel
theorem dX15_be_32 : decode cX15_be 32 = .ok (.aload_n 0, 1) := by decide +kernel
theorem dX15_be_33 : decode cX15_be 33 = .ok (.aload_n 1, 1) := by decide +kernel
theorem dX15_be_34 : decode cX15_be 34 = .ok (.getfield 18, 3) := by decide +kernel
theorem dX15_be_37 : decode cX15_be 37 = .ok (.putfield 18, 3) := by decide +kernel
theorem dX15_be_40 : decode cX15_be 40 = .ok (.aload_n 0, 1) := by decide +kernel
theorem dX15_be_41 : decode cX15_be 41 = .ok (.aload_n 1, 1) := by decide +kernel
theorem dX15_be_42 : decode cX15_be 42 = .ok (.getfield 21, 3) := by decide +kernel
theorem dX15_be_45 : decode cX15_be 45 = .ok (.putfield 21, 3) := by decide +kernel
theorem dX15_be_48 : decode cX15_be 48 = .ok (.aload_n 0, 1) := by decide +kernel
theorem dX15_be_49 : decode cX15_be 49 = .ok (.aload_n 1, 1) := by decide +kernel
theorem dX15_be_50 : decode cX15_be 50 = .ok (.getfield 30, 3) := by decide +kernel
theorem dX15_be_53 : decode cX15_be 53 = .ok (.putfield 30, 3) := by decide +kernel
theorem dX15_be_56 : decode cX15_be 56 = .ok (.aload_n 0, 1) := by decide +kernel
theorem dX15_be_57 : decode cX15_be 57 = .ok (.aload_n 1, 1) := by decide +kernel
theorem dX15_be_58 : decode cX15_be 58 = .ok (.getfield 33, 3) := by decide +kernel
theorem dX15_be_61 : decode cX15_be 61 = .ok (.putfield 33, 3) := by decide +kernel
theorem dX15_be_64 : decode cX15_be 64 = .ok (.return_, 1) := by decide +kernel
theorem dX16_init_0 : decode cX16_init 0 = .ok (.aload_n 0, 1) := by decide +kernel
theorem dX16_init_1 : decode cX16_init 1 = .ok (.invokespecial 1, 3) := by decide +kernel
theorem dX16_init_4 : decode cX16_init 4 = .ok (.aload_n 0, 1) := by decide +kernel
theorem dX16_init_5 : decode cX16_init 5 = .ok (.iload_n 1, 1) := by decide +kernel
theorem dX16_init_6 : decode cX16_init 6 = .ok (.putfield 7, 3) := by decide +kernel
theorem dX16_init_9 : decode cX16_init 9 = .ok (.aload_n 0, 1) := by decide +kernel
theorem dX16_init_10 : decode cX16_init 10 = .ok (.iload_n 2, 1) := by decide +kernel
theorem dX16_init_11 : decode cX16_init 11 = .ok (.putfield 13, 3) := by decide +kernel
theorem dX16_init_14 : decode cX16_init 14 = .ok (.aload_n 0, 1) := by decide +kernel
theorem dX16_init_15 : decode cX16_init 15 = .ok (.iload_n 3, 1) := by decide +kernel
theorem dX16_init_16 : decode cX16_init 16 = .ok (.putfield 16, 3) := by decide +kernel
theorem dX16_init_19 : decode cX16_init 19 = .ok (.aload_n 0, 1) := by decide +kernel
theorem dX16_init_20 : decode cX16_init 20 = .ok (.iload 4, 2) := by decide +kernel
theorem dX16_init_22 : decode cX16_init 22 = .ok (.putfield 19, 3) := by decide +kernel
theorem dX16_init_25 : decode cX16_init 25 = .ok (.aload_n 0, 1) := by decide +kernel
theorem dX16_init_26 : decode cX16_init 26 = .ok (.iload 5, 2) := by decide +kernel
theorem dX16_init_28 : decode cX16_init 28 = .ok (.putfield 22, 3) := by decide +kernel
theorem dX16_init_31 : decode cX16_init 31 = .ok (.return_, 1) := by decide +kernel
theorem dX16_units_0 : decode cX16_units 0 = .ok (.iload_n 1, 1) := by decide +kernel
theorem dX16_units_1 : decode cX16_units 1 = .ok (.aload_n 0, 1) := by decide +kernel
theorem dX16_units_2 : decode cX16_units 2 = .ok (.getfield 16, 3) := by decide +kernel
theorem dX16_units_5 : decode cX16_units 5 = .ok (.if_icmp .lt 11, 3) := by decide +kernel
theorem dX16_units_8 : decode cX16_units 8 = .ok (.iload_n 1, 1) := by decide +kernel
theorem dX16_units_9 : decode cX16_units 9 = .ok (.aload_n 0, 1) := by decide +kernel
theorem dX16_units_10 : decode cX16_units 10 = .ok (.getfield 19, 3) := by decide +kernel
theorem dX16_units_13 : decode cX16_units 13 = .ok (.if_icmp .le 7, 3) := by decide +kernel
theorem dX16_units_16 : decode cX16_units 16 = .ok (.iconst 0, 1) := by decide +kernel
theorem dX16_units_17 : decode cX16_units 17 = .ok (.goto 33, 3) := by decide +kernel
theorem dX16_units_20 : decode cX16_units 20 = .ok (.iload_n 1, 1) := by decide +kernel
theorem dX16_units_21 : decode cX16_units 21 = .ok (.aload_n 0, 1) := by decide +kernel
theorem dX16_units_22 : decode cX16_units 22 = .ok (.getfield 16, 3) := by decide +kernel
theorem dX16_units_25 : decode cX16_units 25 = .ok (.aload_n 0, 1) := by decide +kernel
theorem dX16_units_26 : decode cX16_units 26 = .ok (.getfield 22, 3) := by decide +kernel
theorem dX16_units_29 : decode cX16_units 29 = .ok (.iadd, 1) := by decide +kernel
theorem dX16_units_30 : decode cX16_units 30 = .ok (.if_icmp .ge 13, 3) := by decide +kernel
theorem dX16_units_33 : decode cX16_units 33 = .ok (.bipush (-2), 2) := by decide +kernel
theorem dX16_units_35 : decode cX16_units 35 = .ok (.aload_n 0, 1) := by decide +kernel
theorem dX16_units_36 : decode cX16_units 36 = .ok (.getfield 13, 3) := by decide +kernel
theorem dX16_units_39 : decode cX16_units 39 = .ok (.imul, 1) := by decide +kernel
theorem dX16_units_40 : decode cX16_units 40 = .ok (.goto 10, 3) := by decide +kernel
theorem dX16_units_43 : decode cX16_units 43 = .ok (.bipush 8, 2) := by decide +kernel
theorem dX16_units_45 : decode cX16_units 45 = .ok (.aload_n 0, 1) := by decide +kernel
theorem dX16_units_46 : decode cX16_units 46 = .ok (.getfield 13, 3) := by decide +kernel
theorem dX16_units_49 : decode cX16_units 49 = .ok (.imul, 1) := by decide +kernel
theorem dX16_units_50 : decode cX16_units 50 = .ok (.ireturn, 1) := by decide +kernel
theorem dX17_isValid_0 : decode cX17_isValid 0 = .ok (.aload_n 0, 1) := by decide +kernel
theorem dX17_isValid_1 : decode cX17_isValid 1 = .ok (.getfield 13, 3) := by decide +kernel
theorem dX17_isValid_4 : decode cX17_isValid 4 = .ok (.iload_n 1, 1) := by decide +kernel
theorem dX17_isValid_5 : decode cX17_isValid 5 = .ok (.if_icmp .gt 15, 3) := by decide +kernel
theorem dX17_isValid_8 : decode cX17_isValid 8 = .ok (.iload_n 1, 1) := by decide +kernel
theorem dX17_isValid_9 : decode cX17_isValid 9 = .ok (.aload_n 0, 1) := by decide +kernel
theorem dX17_isValid_10 : decode cX17_isValid 10 = .ok (.getfield 16, 3) := by decide +kernel
theorem dX17_isValid_13 : decode cX17_isValid 13 = .ok (.if_icmp .ge 7, 3) := by decide +kernel
theorem dX17_isValid_16 : decode cX17_isValid 16 = .ok (.iconst 1, 1) := by decide +kernel
theorem dX17_isValid_17 : decode cX17_isValid 17 = .ok (.goto 4, 3) := by decide +kernel
theorem dX17_isValid_20 : decode cX17_isValid 20 = .ok (.iconst 0, 1) := by decide +kernel
theorem dX17_isValid_21 : decode cX17_isValid 21 = .ok (.ireturn, 1) := by decide +kernel
theorem dX17_init_0 : decode cX17_init 0 = .ok (.aload_n 0, 1) := by decide +kernel
theorem dX17_init_1 : decode cX17_init 1 = .ok (.invokespecial 1, 3) := by decide +kernel
theorem dX17_init_4 : decode cX17_init 4 = .ok (.aload_n 0, 1) := by decide +kernel
theorem dX17_init_5 : decode cX17_init 5 = .ok (.iload_n 1, 1) := by decide +kernel
theorem dX17_init_6 : decode cX17_init 6 = .ok (.putfield 7, 3) := by decide +kernel
theorem dX17_init_9 : decode cX17_init 9 = .ok (.aload_n 0, 1) := by decide +kernel
theorem dX17_init_10 : decode cX17_init 10 = .ok (.iload_n 2, 1) := by decide +kernel
theorem dX17_init_11 : decode cX17_init 11 = .ok (.putfield 13, 3) := by decide +kernel
theorem dX17_init_14 : decode cX17_init 14 = .ok (.aload_n 0, 1) := by decide +kernel
theorem dX17_init_15 : decode cX17_init 15 = .ok (.iload_n 3, 1) := by decide +kernel
theorem dX17_init_16 : decode cX17_init 16 = .ok (.putfield 16, 3) := by decide +kernel
theorem dX17_init_19 : decode cX17_init 19 = .ok (.aload_n 0, 1) := by decide +kernel
theorem dX17_init_20 : decode cX17_init 20 = .ok (.iload 4, 2) := by decide +kernel
theorem dX17_init_22 : decode cX17_init 22 = .ok (.putfield 19, 3) := by decide +kernel
theorem dX17_init_25 : decode cX17_init 25 = .ok (.return_, 1) := by decide +kernel
theorem dX0_law_0 : decode cX0_law 0 = .ok (.aload_n 2, 1) := by decide +kernel
theorem dX0_law_1 : decode cX0_law 1 = .ok (.iconst 0, 1) := by decide +kernel
theorem dX0_law_2 : decode cX0_law 2 = .ok (.aload_n 0, 1) := by decide +kernel
theorem dX0_law_3 : decode cX0_law 3 = .ok (.iload_n 1, 1) := by decide +kernel
theorem dX0_law_4 : decode cX0_law 4 = .ok (.invokevirtual 7, 3) := by decide +kernel
theorem dX0_law_7 : decode cX0_law 7 = .ok (.i2l, 1) := by decide +kernel
theorem dX0_law_8 : decode cX0_law 8 = .ok (.lastore, 1) := by decide +kernel
theorem dX0_law_9 : decode cX0_law 9 = .ok (.goto 9, 3) := by decide +kernel
theorem dX0_law_12 : decode cX0_law 12 = .ok (.astore_n 3, 1) := by decide +kernel
theorem dX0_law_13 : decode cX0_law 13 = .ok (.iconst 1, 1) := by decide +kernel
theorem dX0_law_14 : decode cX0_law 14 = .ok (.ireturn, 1) := by decide +kernel
theorem dX0_law_15 : decode cX0_law 15 = .ok (.astore_n 3, 1) := by decide +kernel
theorem dX0_law_16 : decode cX0_law 16 = .ok (.iconst 2, 1) := by decide +kernel
theorem dX0_law_17 : decode cX0_law 17 = .ok (.ireturn, 1) := by decide +kernel
theorem dX0_law_18 : decode cX0_law 18 = .ok (.iconst 0, 1) := by decide +kernel
theorem dX0_law_19 : decode cX0_law 19 = .ok (.ireturn, 1) := by decide +kernel
theorem dX0_person_0 : decode cX0_person 0 = .ok (.aload 8, 2) := by decide +kernel
theorem dX0_person_2 : decode cX0_person 2 = .ok (.iconst 0, 1) := by decide +kernel
theorem dX0_person_3 : decode cX0_person 3 = .ok (.aload_n 0, 1) := by decide +kernel
