/-! method names and decode rows: X5 J11 -/
set_option maxRecDepth 100000
abbrev cX5_init : ByteArray := prog_18_method_1_code
def yX5_init : MethodName := ⟨RX5, "<init>", "()V"⟩
abbrev cX5_thrown : ByteArray := prog_18_method_2_code
def yX5_thrown : MethodName := ⟨RX5, "thrown", "()I"⟩
abbrev cX5_feed : ByteArray := prog_18_method_5_code
def yX5_feed : MethodName := ⟨RX5, "feed", "(IIIII)I"⟩
abbrev cX5_end : ByteArray := prog_18_method_6_code
def yX5_end : MethodName := ⟨RX5, "end", "(I)Z"⟩
abbrev cX5_fault : ByteArray := prog_18_method_15_code
def yX5_fault : MethodName := ⟨RX5, "fault", "()I"⟩
abbrev cX5_law : ByteArray := prog_18_method_24_code
def yX5_law : MethodName := ⟨RX5, "law", "(I)I"⟩
abbrev cX5_uses : ByteArray := prog_18_method_7_code
def yX5_uses : MethodName := ⟨RX5, "uses", "()V"⟩
abbrev cX5_in : ByteArray := prog_18_method_4_code
def yX5_in : MethodName := ⟨RX5, "in", "(III)Z"⟩
abbrev cX5_throwsIf : ByteArray := prog_18_method_3_code
def yX5_throwsIf : MethodName := ⟨RX5, "throwsIf", "(ZI)Z"⟩
abbrev cX5_readLaw : ByteArray := prog_18_method_23_code
def yX5_readLaw : MethodName := ⟨RX5, "readLaw", "()I"⟩
abbrev cX5_blanksBetween : ByteArray := prog_18_method_9_code
def yX5_blanksBetween : MethodName := ⟨RX5, "blanksBetween", "()V"⟩
abbrev cX5_isAt : ByteArray := prog_18_method_8_code
def yX5_isAt : MethodName := ⟨RX5, "isAt", "(II)Z"⟩
abbrev cX5_readClause : ByteArray := prog_18_method_22_code
def yX5_readClause : MethodName := ⟨RX5, "readClause", "(I)Z"⟩
abbrev cX5_word : ByteArray := prog_18_method_10_code
def yX5_word : MethodName := ⟨RX5, "word", "()V"⟩
abbrev cX5_isWord : ByteArray := prog_18_method_11_code
def yX5_isWord : MethodName := ⟨RX5, "isWord", "(Ljava/lang/String;)Z"⟩
abbrev cX5_item : ByteArray := prog_18_method_18_code
def yX5_item : MethodName := ⟨RX5, "item", "(I)Ljava/lang/String;"⟩
abbrev cX5_number : ByteArray := prog_18_method_14_code
def yX5_number : MethodName := ⟨RX5, "number", "()I"⟩
abbrev cX5_passes : ByteArray := prog_18_method_12_code
def yX5_passes : MethodName := ⟨RX5, "passes", "(Ljava/lang/String;)Z"⟩
abbrev cX5_readCond : ByteArray := prog_18_method_21_code
def yX5_readCond : MethodName := ⟨RX5, "readCond", "()Z"⟩
abbrev cX5_readAllOf : ByteArray := prog_18_method_20_code
def yX5_readAllOf : MethodName := ⟨RX5, "readAllOf", "()Z"⟩
abbrev cX5_readAtom : ByteArray := prog_18_method_19_code
def yX5_readAtom : MethodName := ⟨RX5, "readAtom", "()Z"⟩
abbrev cX5_passesSign : ByteArray := prog_18_method_13_code
def yX5_passesSign : MethodName := ⟨RX5, "passesSign", "(I)Z"⟩
abbrev cX5_adds : ByteArray := prog_18_method_16_code
def yX5_adds : MethodName := ⟨RX5, "adds", "(III)V"⟩
abbrev cX5_fact : ByteArray := prog_18_method_17_code
def yX5_fact : MethodName := ⟨RX5, "fact", "(I)Ljava/lang/String;"⟩
abbrev cX5_person : ByteArray := prog_18_method_30_code
def yX5_person : MethodName := ⟨RX5, "person", "(IZIIIII)I"⟩
abbrev cX5_noFace : ByteArray := prog_18_method_29_code
def yX5_noFace : MethodName := ⟨RX5, "noFace", "(I)Z"⟩
abbrev cX5_name : ByteArray := prog_18_method_34_code
def yX5_name : MethodName := ⟨RX5, "name", "(I)I"⟩
abbrev cX5_nobody : ByteArray := prog_18_method_28_code
def yX5_nobody : MethodName := ⟨RX5, "nobody", "(I)Z"⟩
abbrev cX5_readName : ByteArray := prog_18_method_33_code
def yX5_readName : MethodName := ⟨RX5, "readName", "()I"⟩
abbrev cX5_turnOf : ByteArray := prog_18_method_32_code
def yX5_turnOf : MethodName := ⟨RX5, "turnOf", "(I)I"⟩
abbrev cX5_isGap : ByteArray := prog_18_method_31_code
def yX5_isGap : MethodName := ⟨RX5, "isGap", "(I)Z"⟩
abbrev cX5_sign : ByteArray := prog_18_method_35_code
def yX5_sign : MethodName := ⟨RX5, "sign", "(II)I"⟩
abbrev cX5_figure : ByteArray := prog_18_method_36_code
def yX5_figure : MethodName := ⟨RX5, "figure", "(I)I"⟩
abbrev cX5_far : ByteArray := prog_18_method_38_code
def yX5_far : MethodName := ⟨RX5, "far", "(II)I"⟩
abbrev cX5_farOf : ByteArray := prog_18_method_37_code
def yX5_farOf : MethodName := ⟨RX5, "farOf", "(II)I"⟩
abbrev cX5_hands : ByteArray := prog_18_method_40_code
def yX5_hands : MethodName := ⟨RX5, "hands", "(II)V"⟩
abbrev cX5_noDesk : ByteArray := prog_18_method_39_code
def yX5_noDesk : MethodName := ⟨RX5, "noDesk", "(I)Z"⟩
abbrev cX5_lend : ByteArray := prog_18_method_41_code
def yX5_lend : MethodName := ⟨RX5, "lend", "(IIIII)I"⟩
abbrev cX5_units : ByteArray := prog_18_method_43_code
def yX5_units : MethodName := ⟨RX5, "units", "(II)I"⟩
abbrev cX5_unitsOf : ByteArray := prog_18_method_42_code
def yX5_unitsOf : MethodName := ⟨RX5, "unitsOf", "(II)I"⟩
abbrev cX5_rules : ByteArray := prog_18_method_44_code
def yX5_rules : MethodName := ⟨RX5, "rules", "(IIIII)V"⟩
abbrev cX5_order : ByteArray := prog_18_method_45_code
def yX5_order : MethodName := ⟨RX5, "order", "(I)V"⟩
abbrev cX5_blanks : ByteArray := prog_18_method_46_code
def yX5_blanks : MethodName := ⟨RX5, "blanks", "(I)I"⟩
abbrev cX5_broken : ByteArray := prog_18_method_47_code
def yX5_broken : MethodName := ⟨RX5, "broken", "(II)V"⟩
abbrev cX5_judge : ByteArray := prog_18_method_54_code
def yX5_judge : MethodName := ⟨RX5, "judge", "(IIIZI)I"⟩
abbrev cX5_noAsk : ByteArray := prog_18_method_53_code
def yX5_noAsk : MethodName := ⟨RX5, "noAsk", "(II)Z"⟩
abbrev cX5_judges : ByteArray := prog_18_method_27_code
def yX5_judges : MethodName := ⟨RX5, "judges", "(IIIZ)V"⟩
abbrev cX5_validOf : ByteArray := prog_18_method_52_code
def yX5_validOf : MethodName := ⟨RX5, "validOf", "(II)I"⟩
abbrev cX5_lawOf : ByteArray := prog_18_method_25_code
def yX5_lawOf : MethodName := ⟨RX5, "lawOf", "(I)I"⟩
abbrev cX5_holds : ByteArray := prog_18_method_26_code
def yX5_holds : MethodName := ⟨RX5, "holds", "(III)Z"⟩
abbrev cX5_ask : ByteArray := prog_18_method_55_code
def yX5_ask : MethodName := ⟨RX5, "ask", "(IIIIZ)I"⟩
abbrev cX5_sets : ByteArray := prog_18_method_50_code
def yX5_sets : MethodName := ⟨RX5, "sets", "(III)V"⟩
abbrev cX5_give : ByteArray := prog_18_method_56_code
def yX5_give : MethodName := ⟨RX5, "give", "(II)I"⟩
abbrev cX5_noAsking : ByteArray := prog_18_method_48_code
def yX5_noAsking : MethodName := ⟨RX5, "noAsking", "(I)Z"⟩
abbrev cX5_now : ByteArray := prog_18_method_49_code
def yX5_now : MethodName := ⟨RX5, "now", "(II)I"⟩
abbrev cX5_lacksOf : ByteArray := prog_18_method_51_code
def yX5_lacksOf : MethodName := ⟨RX5, "lacksOf", "(I)I"⟩
abbrev cX5_tell : ByteArray := prog_18_method_58_code
def yX5_tell : MethodName := ⟨RX5, "tell", "(IIZ)I"⟩
abbrev cX5_checks : ByteArray := prog_18_method_57_code
def yX5_checks : MethodName := ⟨RX5, "checks", "(I)V"⟩
abbrev cX5_days : ByteArray := prog_18_method_70_code
def yX5_days : MethodName := ⟨RX5, "days", "(I)I"⟩
abbrev cX5_day : ByteArray := prog_18_method_69_code
def yX5_day : MethodName := ⟨RX5, "day", "(I)V"⟩
abbrev cX5_gets : ByteArray := prog_18_method_64_code
def yX5_gets : MethodName := ⟨RX5, "gets", "(I)V"⟩
abbrev cX5_works : ByteArray := prog_18_method_68_code
def yX5_works : MethodName := ⟨RX5, "works", "(II)V"⟩
abbrev cX5_lines : ByteArray := prog_18_method_62_code
def yX5_lines : MethodName := ⟨RX5, "lines", "(II)V"⟩
abbrev cX5_stateAt : ByteArray := prog_18_method_59_code
def yX5_stateAt : MethodName := ⟨RX5, "stateAt", "(I)I"⟩
abbrev cX5_isAhead : ByteArray := prog_18_method_61_code
def yX5_isAhead : MethodName := ⟨RX5, "isAhead", "(III)Z"⟩
abbrev cX5_hasTicket : ByteArray := prog_18_method_60_code
def yX5_hasTicket : MethodName := ⟨RX5, "hasTicket", "(I)Z"⟩
abbrev cX5_takes : ByteArray := prog_18_method_63_code
def yX5_takes : MethodName := ⟨RX5, "takes", "(II)I"⟩
abbrev cX5_canPrint : ByteArray := prog_18_method_67_code
def yX5_canPrint : MethodName := ⟨RX5, "canPrint", "()Z"⟩
abbrev cX5_does : ByteArray := prog_18_method_66_code
def yX5_does : MethodName := ⟨RX5, "does", "(II)V"⟩
abbrev cX5_prints : ByteArray := prog_18_method_65_code
def yX5_prints : MethodName := ⟨RX5, "prints", "(I)V"⟩
abbrev cX5_refuse : ByteArray := prog_18_method_71_code
def yX5_refuse : MethodName := ⟨RX5, "refuse", "(I)V"⟩
abbrev cX5_lose : ByteArray := prog_18_method_72_code
def yX5_lose : MethodName := ⟨RX5, "lose", "(I)V"⟩
abbrev cX5_again : ByteArray := prog_18_method_73_code
def yX5_again : MethodName := ⟨RX5, "again", "(I)V"⟩
abbrev cX5_led : ByteArray := prog_18_method_74_code
def yX5_led : MethodName := ⟨RX5, "led", "(II)I"⟩
abbrev cX5_queue : ByteArray := prog_18_method_75_code
def yX5_queue : MethodName := ⟨RX5, "queue", "(I)I"⟩
abbrev cX5_ahead : ByteArray := prog_18_method_76_code
def yX5_ahead : MethodName := ⟨RX5, "ahead", "(I)I"⟩
abbrev cX5_booklet : ByteArray := prog_18_method_77_code
def yX5_booklet : MethodName := ⟨RX5, "booklet", "(II)I"⟩
abbrev cX5_valid : ByteArray := prog_18_method_78_code
def yX5_valid : MethodName := ⟨RX5, "valid", "(II)I"⟩
abbrev cX5_missed : ByteArray := prog_18_method_79_code
def yX5_missed : MethodName := ⟨RX5, "missed", "(II)I"⟩
abbrev cX5_waits : ByteArray := prog_18_method_80_code
def yX5_waits : MethodName := ⟨RX5, "waits", "(IZ)I"⟩
abbrev cX5_ends : ByteArray := prog_18_method_81_code
def yX5_ends : MethodName := ⟨RX5, "ends", "(II)I"⟩
abbrev cX5_count : ByteArray := prog_18_method_83_code
def yX5_count : MethodName := ⟨RX5, "count", "(I)I"⟩
abbrev cX5_inState : ByteArray := prog_18_method_82_code
def yX5_inState : MethodName := ⟨RX5, "inState", "(II)I"⟩
abbrev cJ11_min : ByteArray := prog_24_method_69_code
def yJ11_min : MethodName := ⟨RJ11, "min", "(II)I"⟩
abbrev cJ11_max : ByteArray := prog_24_method_65_code
def yJ11_max : MethodName := ⟨RJ11, "max", "(II)I"⟩
abbrev cJ11_floorDiv : ByteArray := prog_24_method_47_code
def yJ11_floorDiv : MethodName := ⟨RJ11, "floorDiv", "(II)I"⟩
theorem dX5_init_0 : decode cX5_init 0 = .ok (.aload_n 0, 1) := by decide +kernel
theorem dX5_init_1 : decode cX5_init 1 = .ok (.invokespecial 3, 3) := by decide +kernel
theorem dX5_init_4 : decode cX5_init 4 = .ok (.aload_n 0, 1) := by decide +kernel
theorem dX5_init_5 : decode cX5_init 5 = .ok (.sipush 400, 3) := by decide +kernel
theorem dX5_init_8 : decode cX5_init 8 = .ok (.newarray .byte, 2) := by decide +kernel
theorem dX5_init_10 : decode cX5_init 10 = .ok (.putfield 9, 3) := by decide +kernel
theorem dX5_init_13 : decode cX5_init 13 = .ok (.aload_n 0, 1) := by decide +kernel
theorem dX5_init_14 : decode cX5_init 14 = .ok (.iconst (-1), 1) := by decide +kernel
theorem dX5_init_15 : decode cX5_init 15 = .ok (.putfield 13, 3) := by decide +kernel
theorem dX5_init_18 : decode cX5_init 18 = .ok (.aload_n 0, 1) := by decide +kernel
theorem dX5_init_19 : decode cX5_init 19 = .ok (.iconst 5, 1) := by decide +kernel
theorem dX5_init_20 : decode cX5_init 20 = .ok (.newarray .int, 2) := by decide +kernel
theorem dX5_init_22 : decode cX5_init 22 = .ok (.putfield 17, 3) := by decide +kernel
theorem dX5_init_25 : decode cX5_init 25 = .ok (.aload_n 0, 1) := by decide +kernel
theorem dX5_init_26 : decode cX5_init 26 = .ok (.bipush 13, 2) := by decide +kernel
theorem dX5_init_28 : decode cX5_init 28 = .ok (.newarray .int, 2) := by decide +kernel
theorem dX5_init_30 : decode cX5_init 30 = .ok (.putfield 21, 3) := by decide +kernel
theorem dX5_init_33 : decode cX5_init 33 = .ok (.aload_n 0, 1) := by decide +kernel
theorem dX5_init_34 : decode cX5_init 34 = .ok (.bipush 13, 2) := by decide +kernel
theorem dX5_init_36 : decode cX5_init 36 = .ok (.newarray .int, 2) := by decide +kernel
theorem dX5_init_38 : decode cX5_init 38 = .ok (.putfield 24, 3) := by decide +kernel
theorem dX5_init_41 : decode cX5_init 41 = .ok (.aload_n 0, 1) := by decide +kernel
theorem dX5_init_42 : decode cX5_init 42 = .ok (.sipush 208, 3) := by decide +kernel
theorem dX5_init_45 : decode cX5_init 45 = .ok (.newarray .int, 2) := by decide +kernel
theorem dX5_init_47 : decode cX5_init 47 = .ok (.putfield 27, 3) := by decide +kernel
theorem dX5_init_50 : decode cX5_init 50 = .ok (.aload_n 0, 1) := by decide +kernel
theorem dX5_init_51 : decode cX5_init 51 = .ok (.sipush 208, 3) := by decide +kernel
theorem dX5_init_54 : decode cX5_init 54 = .ok (.newarray .int, 2) := by decide +kernel
theorem dX5_init_56 : decode cX5_init 56 = .ok (.putfield 30, 3) := by decide +kernel
theorem dX5_init_59 : decode cX5_init 59 = .ok (.aload_n 0, 1) := by decide +kernel
theorem dX5_init_60 : decode cX5_init 60 = .ok (.sipush 208, 3) := by decide +kernel
theorem dX5_init_63 : decode cX5_init 63 = .ok (.newarray .int, 2) := by decide +kernel
theorem dX5_init_65 : decode cX5_init 65 = .ok (.putfield 33, 3) := by decide +kernel
theorem dX5_init_68 : decode cX5_init 68 = .ok (.aload_n 0, 1) := by decide +kernel
theorem dX5_init_69 : decode cX5_init 69 = .ok (.sipush 208, 3) := by decide +kernel
theorem dX5_init_72 : decode cX5_init 72 = .ok (.newarray .int, 2) := by decide +kernel
theorem dX5_init_74 : decode cX5_init 74 = .ok (.putfield 36, 3) := by decide +kernel
theorem dX5_init_77 : decode cX5_init 77 = .ok (.aload_n 0, 1) := by decide +kernel
theorem dX5_init_78 : decode cX5_init 78 = .ok (.sipush 5200, 3) := by decide +kernel
theorem dX5_init_81 : decode cX5_init 81 = .ok (.newarray .int, 2) := by decide +kernel
theorem dX5_init_83 : decode cX5_init 83 = .ok (.putfield 39, 3) := by decide +kernel
theorem dX5_init_86 : decode cX5_init 86 = .ok (.aload_n 0, 1) := by decide +kernel
theorem dX5_init_87 : decode cX5_init 87 = .ok (.sipush 5200, 3) := by decide +kernel
theorem dX5_init_90 : decode cX5_init 90 = .ok (.newarray .int, 2) := by decide +kernel
theorem dX5_init_92 : decode cX5_init 92 = .ok (.putfield 42, 3) := by decide +kernel
theorem dX5_init_95 : decode cX5_init 95 = .ok (.aload_n 0, 1) := by decide +kernel
theorem dX5_init_96 : decode cX5_init 96 = .ok (.sipush 5200, 3) := by decide +kernel
theorem dX5_init_99 : decode cX5_init 99 = .ok (.newarray .int, 2) := by decide +kernel
theorem dX5_init_101 : decode cX5_init 101 = .ok (.putfield 45, 3) := by decide +kernel
theorem dX5_init_104 : decode cX5_init 104 = .ok (.aload_n 0, 1) := by decide +kernel
theorem dX5_init_105 : decode cX5_init 105 = .ok (.bipush 9, 2) := by decide +kernel
theorem dX5_init_107 : decode cX5_init 107 = .ok (.newarray .int, 2) := by decide +kernel
theorem dX5_init_109 : decode cX5_init 109 = .ok (.putfield 48, 3) := by decide +kernel
theorem dX5_init_112 : decode cX5_init 112 = .ok (.aload_n 0, 1) := by decide +kernel
theorem dX5_init_113 : decode cX5_init 113 = .ok (.sipush 400, 3) := by decide +kernel
theorem dX5_init_116 : decode cX5_init 116 = .ok (.newarray .boolean, 2) := by decide +kernel
theorem dX5_init_118 : decode cX5_init 118 = .ok (.putfield 51, 3) := by decide +kernel
theorem dX5_init_121 : decode cX5_init 121 = .ok (.aload_n 0, 1) := by decide +kernel
theorem dX5_init_122 : decode cX5_init 122 = .ok (.bipush 80, 2) := by decide +kernel
theorem dX5_init_124 : decode cX5_init 124 = .ok (.newarray .int, 2) := by decide +kernel
theorem dX5_init_126 : decode cX5_init 126 = .ok (.putfield 55, 3) := by decide +kernel
theorem dX5_init_129 : decode cX5_init 129 = .ok (.aload_n 0, 1) := by decide +kernel
theorem dX5_init_130 : decode cX5_init 130 = .ok (.bipush 80, 2) := by decide +kernel
theorem dX5_init_132 : decode cX5_init 132 = .ok (.newarray .boolean, 2) := by decide +kernel
theorem dX5_init_134 : decode cX5_init 134 = .ok (.putfield 58, 3) := by decide +kernel
theorem dX5_init_137 : decode cX5_init 137 = .ok (.aload_n 0, 1) := by decide +kernel
theorem dX5_init_138 : decode cX5_init 138 = .ok (.sipush 400, 3) := by decide +kernel
theorem dX5_init_141 : decode cX5_init 141 = .ok (.newarray .int, 2) := by decide +kernel
theorem dX5_init_143 : decode cX5_init 143 = .ok (.putfield 61, 3) := by decide +kernel
theorem dX5_init_146 : decode cX5_init 146 = .ok (.aload_n 0, 1) := by decide +kernel
theorem dX5_init_147 : decode cX5_init 147 = .ok (.sipush 1920, 3) := by decide +kernel
theorem dX5_init_150 : decode cX5_init 150 = .ok (.newarray .int, 2) := by decide +kernel
theorem dX5_init_152 : decode cX5_init 152 = .ok (.putfield 64, 3) := by decide +kernel
theorem dX5_init_155 : decode cX5_init 155 = .ok (.aload_n 0, 1) := by decide +kernel
theorem dX5_init_156 : decode cX5_init 156 = .ok (.bipush 80, 2) := by decide +kernel
theorem dX5_init_158 : decode cX5_init 158 = .ok (.newarray .boolean, 2) := by decide +kernel
theorem dX5_init_160 : decode cX5_init 160 = .ok (.putfield 67, 3) := by decide +kernel
theorem dX5_init_163 : decode cX5_init 163 = .ok (.aload_n 0, 1) := by decide +kernel
theorem dX5_init_164 : decode cX5_init 164 = .ok (.sipush 6400, 3) := by decide +kernel
theorem dX5_init_167 : decode cX5_init 167 = .ok (.newarray .int, 2) := by decide +kernel
theorem dX5_init_169 : decode cX5_init 169 = .ok (.putfield 70, 3) := by decide +kernel
theorem dX5_init_172 : decode cX5_init 172 = .ok (.aload_n 0, 1) := by decide +kernel
theorem dX5_init_173 : decode cX5_init 173 = .ok (.bipush 48, 2) := by decide +kernel
theorem dX5_init_175 : decode cX5_init 175 = .ok (.newarray .int, 2) := by decide +kernel
theorem dX5_init_177 : decode cX5_init 177 = .ok (.putfield 73, 3) := by decide +kernel
theorem dX5_init_180 : decode cX5_init 180 = .ok (.aload_n 0, 1) := by decide +kernel
theorem dX5_init_181 : decode cX5_init 181 = .ok (.bipush 20, 2) := by decide +kernel
theorem dX5_init_183 : decode cX5_init 183 = .ok (.putfield 76, 3) := by decide +kernel
theorem dX5_init_186 : decode cX5_init 186 = .ok (.aload_n 0, 1) := by decide +kernel
theorem dX5_init_187 : decode cX5_init 187 = .ok (.bipush 30, 2) := by decide +kernel
theorem dX5_init_189 : decode cX5_init 189 = .ok (.putfield 79, 3) := by decide +kernel
theorem dX5_init_192 : decode cX5_init 192 = .ok (.aload_n 0, 1) := by decide +kernel
theorem dX5_init_193 : decode cX5_init 193 = .ok (.bipush 10, 2) := by decide +kernel
theorem dX5_init_195 : decode cX5_init 195 = .ok (.putfield 82, 3) := by decide +kernel
theorem dX5_init_198 : decode cX5_init 198 = .ok (.aload_n 0, 1) := by decide +kernel
theorem dX5_init_199 : decode cX5_init 199 = .ok (.iconst 2, 1) := by decide +kernel
theorem dX5_init_200 : decode cX5_init 200 = .ok (.putfield 85, 3) := by decide +kernel
theorem dX5_init_203 : decode cX5_init 203 = .ok (.aload_n 0, 1) := by decide +kernel
theorem dX5_init_204 : decode cX5_init 204 = .ok (.bipush 9, 2) := by decide +kernel
theorem dX5_init_206 : decode cX5_init 206 = .ok (.putfield 88, 3) := by decide +kernel
theorem dX5_init_209 : decode cX5_init 209 = .ok (.aload_n 0, 1) := by decide +kernel
theorem dX5_init_210 : decode cX5_init 210 = .ok (.iconst 1, 1) := by decide +kernel
theorem dX5_init_211 : decode cX5_init 211 = .ok (.putfield 91, 3) := by decide +kernel
theorem dX5_init_214 : decode cX5_init 214 = .ok (.aload_n 0, 1) := by decide +kernel
theorem dX5_init_215 : decode cX5_init 215 = .ok (.iconst 4, 1) := by decide +kernel
theorem dX5_init_216 : decode cX5_init 216 = .ok (.newarray .int, 2) := by decide +kernel
theorem dX5_init_218 : decode cX5_init 218 = .ok (.dup, 1) := by decide +kernel
theorem dX5_init_219 : decode cX5_init 219 = .ok (.iconst 0, 1) := by decide +kernel
theorem dX5_init_220 : decode cX5_init 220 = .ok (.iconst 1, 1) := by decide +kernel
theorem dX5_init_221 : decode cX5_init 221 = .ok (.iastore, 1) := by decide +kernel
theorem dX5_init_222 : decode cX5_init 222 = .ok (.dup, 1) := by decide +kernel
theorem dX5_init_223 : decode cX5_init 223 = .ok (.iconst 1, 1) := by decide +kernel
theorem dX5_init_224 : decode cX5_init 224 = .ok (.iconst 1, 1) := by decide +kernel
theorem dX5_init_225 : decode cX5_init 225 = .ok (.iastore, 1) := by decide +kernel
theorem dX5_init_226 : decode cX5_init 226 = .ok (.dup, 1) := by decide +kernel
theorem dX5_init_227 : decode cX5_init 227 = .ok (.iconst 2, 1) := by decide +kernel
theorem dX5_init_228 : decode cX5_init 228 = .ok (.iconst 1, 1) := by decide +kernel
theorem dX5_init_229 : decode cX5_init 229 = .ok (.iastore, 1) := by decide +kernel
theorem dX5_init_230 : decode cX5_init 230 = .ok (.dup, 1) := by decide +kernel
theorem dX5_init_231 : decode cX5_init 231 = .ok (.iconst 3, 1) := by decide +kernel
theorem dX5_init_232 : decode cX5_init 232 = .ok (.iconst 1, 1) := by decide +kernel
theorem dX5_init_233 : decode cX5_init 233 = .ok (.iastore, 1) := by decide +kernel
theorem dX5_init_234 : decode cX5_init 234 = .ok (.putfield 94, 3) := by decide +kernel
theorem dX5_init_237 : decode cX5_init 237 = .ok (.aload_n 0, 1) := by decide +kernel
theorem dX5_init_238 : decode cX5_init 238 = .ok (.bipush 20, 2) := by decide +kernel
theorem dX5_init_240 : decode cX5_init 240 = .ok (.newarray .int, 2) := by decide +kernel
theorem dX5_init_242 : decode cX5_init 242 = .ok (.putfield 97, 3) := by decide +kernel
theorem dX5_init_245 : decode cX5_init 245 = .ok (.aload_n 0, 1) := by decide +kernel
theorem dX5_init_246 : decode cX5_init 246 = .ok (.bipush 20, 2) := by decide +kernel
theorem dX5_init_248 : decode cX5_init 248 = .ok (.newarray .int, 2) := by decide +kernel
theorem dX5_init_250 : decode cX5_init 250 = .ok (.putfield 100, 3) := by decide +kernel
theorem dX5_init_253 : decode cX5_init 253 = .ok (.aload_n 0, 1) := by decide +kernel
theorem dX5_init_254 : decode cX5_init 254 = .ok (.bipush 20, 2) := by decide +kernel
theorem dX5_init_256 : decode cX5_init 256 = .ok (.newarray .int, 2) := by decide +kernel
theorem dX5_init_258 : decode cX5_init 258 = .ok (.putfield 103, 3) := by decide +kernel
theorem dX5_init_261 : decode cX5_init 261 = .ok (.aload_n 0, 1) := by decide +kernel
theorem dX5_init_262 : decode cX5_init 262 = .ok (.bipush 20, 2) := by decide +kernel
theorem dX5_init_264 : decode cX5_init 264 = .ok (.newarray .int, 2) := by decide +kernel
theorem dX5_init_266 : decode cX5_init 266 = .ok (.putfield 106, 3) := by decide +kernel
theorem dX5_init_269 : decode cX5_init 269 = .ok (.aload_n 0, 1) := by decide +kernel
theorem dX5_init_270 : decode cX5_init 270 = .ok (.bipush 20, 2) := by decide +kernel
theorem dX5_init_272 : decode cX5_init 272 = .ok (.newarray .int, 2) := by decide +kernel
theorem dX5_init_274 : decode cX5_init 274 = .ok (.putfield 109, 3) := by decide +kernel
theorem dX5_init_277 : decode cX5_init 277 = .ok (.aload_n 0, 1) := by decide +kernel
theorem dX5_init_278 : decode cX5_init 278 = .ok (.bipush 120, 2) := by decide +kernel
theorem dX5_init_280 : decode cX5_init 280 = .ok (.newarray .int, 2) := by decide +kernel
theorem dX5_init_282 : decode cX5_init 282 = .ok (.putfield 112, 3) := by decide +kernel
theorem dX5_init_285 : decode cX5_init 285 = .ok (.aload_n 0, 1) := by decide +kernel
theorem dX5_init_286 : decode cX5_init 286 = .ok (.bipush 120, 2) := by decide +kernel
theorem dX5_init_288 : decode cX5_init 288 = .ok (.newarray .int, 2) := by decide +kernel
theorem dX5_init_290 : decode cX5_init 290 = .ok (.putfield 115, 3) := by decide +kernel
theorem dX5_init_293 : decode cX5_init 293 = .ok (.aload_n 0, 1) := by decide +kernel
theorem dX5_init_294 : decode cX5_init 294 = .ok (.bipush 120, 2) := by decide +kernel
theorem dX5_init_296 : decode cX5_init 296 = .ok (.newarray .int, 2) := by decide +kernel
theorem dX5_init_298 : decode cX5_init 298 = .ok (.putfield 118, 3) := by decide +kernel
theorem dX5_init_301 : decode cX5_init 301 = .ok (.aload_n 0, 1) := by decide +kernel
theorem dX5_init_302 : decode cX5_init 302 = .ok (.bipush 120, 2) := by decide +kernel
theorem dX5_init_304 : decode cX5_init 304 = .ok (.newarray .int, 2) := by decide +kernel
theorem dX5_init_306 : decode cX5_init 306 = .ok (.putfield 121, 3) := by decide +kernel
theorem dX5_init_309 : decode cX5_init 309 = .ok (.aload_n 0, 1) := by decide +kernel
theorem dX5_init_310 : decode cX5_init 310 = .ok (.bipush 120, 2) := by decide +kernel
theorem dX5_init_312 : decode cX5_init 312 = .ok (.newarray .int, 2) := by decide +kernel
theorem dX5_init_314 : decode cX5_init 314 = .ok (.putfield 124, 3) := by decide +kernel
theorem dX5_init_317 : decode cX5_init 317 = .ok (.aload_n 0, 1) := by decide +kernel
theorem dX5_init_318 : decode cX5_init 318 = .ok (.bipush 120, 2) := by decide +kernel
theorem dX5_init_320 : decode cX5_init 320 = .ok (.newarray .boolean, 2) := by decide +kernel
theorem dX5_init_322 : decode cX5_init 322 = .ok (.putfield 127, 3) := by decide +kernel
theorem dX5_init_325 : decode cX5_init 325 = .ok (.aload_n 0, 1) := by decide +kernel
theorem dX5_init_326 : decode cX5_init 326 = .ok (.bipush 120, 2) := by decide +kernel
theorem dX5_init_328 : decode cX5_init 328 = .ok (.newarray .int, 2) := by decide +kernel
theorem dX5_init_330 : decode cX5_init 330 = .ok (.putfield 130, 3) := by decide +kernel
theorem dX5_init_333 : decode cX5_init 333 = .ok (.aload_n 0, 1) := by decide +kernel
theorem dX5_init_334 : decode cX5_init 334 = .ok (.bipush 120, 2) := by decide +kernel
theorem dX5_init_336 : decode cX5_init 336 = .ok (.newarray .int, 2) := by decide +kernel
theorem dX5_init_338 : decode cX5_init 338 = .ok (.putfield 133, 3) := by decide +kernel
theorem dX5_init_341 : decode cX5_init 341 = .ok (.aload_n 0, 1) := by decide +kernel
theorem dX5_init_342 : decode cX5_init 342 = .ok (.bipush 120, 2) := by decide +kernel
theorem dX5_init_344 : decode cX5_init 344 = .ok (.newarray .int, 2) := by decide +kernel
theorem dX5_init_346 : decode cX5_init 346 = .ok (.putfield 136, 3) := by decide +kernel
theorem dX5_init_349 : decode cX5_init 349 = .ok (.aload_n 0, 1) := by decide +kernel
theorem dX5_init_350 : decode cX5_init 350 = .ok (.bipush 120, 2) := by decide +kernel
theorem dX5_init_352 : decode cX5_init 352 = .ok (.newarray .int, 2) := by decide +kernel
theorem dX5_init_354 : decode cX5_init 354 = .ok (.putfield 139, 3) := by decide +kernel
theorem dX5_init_357 : decode cX5_init 357 = .ok (.aload_n 0, 1) := by decide +kernel
theorem dX5_init_358 : decode cX5_init 358 = .ok (.bipush 120, 2) := by decide +kernel
theorem dX5_init_360 : decode cX5_init 360 = .ok (.newarray .boolean, 2) := by decide +kernel
theorem dX5_init_362 : decode cX5_init 362 = .ok (.putfield 142, 3) := by decide +kernel
theorem dX5_init_365 : decode cX5_init 365 = .ok (.aload_n 0, 1) := by decide +kernel
theorem dX5_init_366 : decode cX5_init 366 = .ok (.bipush 120, 2) := by decide +kernel
theorem dX5_init_368 : decode cX5_init 368 = .ok (.newarray .int, 2) := by decide +kernel
theorem dX5_init_370 : decode cX5_init 370 = .ok (.putfield 145, 3) := by decide +kernel
theorem dX5_init_373 : decode cX5_init 373 = .ok (.aload_n 0, 1) := by decide +kernel
theorem dX5_init_374 : decode cX5_init 374 = .ok (.sipush 840, 3) := by decide +kernel
theorem dX5_init_377 : decode cX5_init 377 = .ok (.newarray .int, 2) := by decide +kernel
theorem dX5_init_379 : decode cX5_init 379 = .ok (.putfield 148, 3) := by decide +kernel
theorem dX5_init_382 : decode cX5_init 382 = .ok (.aload_n 0, 1) := by decide +kernel
theorem dX5_init_383 : decode cX5_init 383 = .ok (.sipush 150, 3) := by decide +kernel
theorem dX5_init_386 : decode cX5_init 386 = .ok (.newarray .int, 2) := by decide +kernel
theorem dX5_init_388 : decode cX5_init 388 = .ok (.putfield 151, 3) := by decide +kernel
theorem dX5_init_391 : decode cX5_init 391 = .ok (.aload_n 0, 1) := by decide +kernel
theorem dX5_init_392 : decode cX5_init 392 = .ok (.sipush 150, 3) := by decide +kernel
theorem dX5_init_395 : decode cX5_init 395 = .ok (.newarray .int, 2) := by decide +kernel
theorem dX5_init_397 : decode cX5_init 397 = .ok (.putfield 154, 3) := by decide +kernel
theorem dX5_init_400 : decode cX5_init 400 = .ok (.aload_n 0, 1) := by decide +kernel
theorem dX5_init_401 : decode cX5_init 401 = .ok (.sipush 150, 3) := by decide +kernel
theorem dX5_init_404 : decode cX5_init 404 = .ok (.newarray .int, 2) := by decide +kernel
theorem dX5_init_406 : decode cX5_init 406 = .ok (.putfield 157, 3) := by decide +kernel
theorem dX5_init_409 : decode cX5_init 409 = .ok (.aload_n 0, 1) := by decide +kernel
theorem dX5_init_410 : decode cX5_init 410 = .ok (.sipush 150, 3) := by decide +kernel
theorem dX5_init_413 : decode cX5_init 413 = .ok (.newarray .int, 2) := by decide +kernel
theorem dX5_init_415 : decode cX5_init 415 = .ok (.putfield 160, 3) := by decide +kernel
theorem dX5_init_418 : decode cX5_init 418 = .ok (.aload_n 0, 1) := by decide +kernel
theorem dX5_init_419 : decode cX5_init 419 = .ok (.bipush 120, 2) := by decide +kernel
theorem dX5_init_421 : decode cX5_init 421 = .ok (.newarray .int, 2) := by decide +kernel
theorem dX5_init_423 : decode cX5_init 423 = .ok (.putfield 163, 3) := by decide +kernel
theorem dX5_init_426 : decode cX5_init 426 = .ok (.aload_n 0, 1) := by decide +kernel
theorem dX5_init_427 : decode cX5_init 427 = .ok (.sipush 840, 3) := by decide +kernel
theorem dX5_init_430 : decode cX5_init 430 = .ok (.newarray .int, 2) := by decide +kernel
theorem dX5_init_432 : decode cX5_init 432 = .ok (.putfield 166, 3) := by decide +kernel
theorem dX5_init_435 : decode cX5_init 435 = .ok (.aload_n 0, 1) := by decide +kernel
theorem dX5_init_436 : decode cX5_init 436 = .ok (.sipush 150, 3) := by decide +kernel
theorem dX5_init_439 : decode cX5_init 439 = .ok (.newarray .int, 2) := by decide +kernel
theorem dX5_init_441 : decode cX5_init 441 = .ok (.putfield 169, 3) := by decide +kernel
theorem dX5_init_444 : decode cX5_init 444 = .ok (.aload_n 0, 1) := by decide +kernel
theorem dX5_init_445 : decode cX5_init 445 = .ok (.bipush 120, 2) := by decide +kernel
theorem dX5_init_447 : decode cX5_init 447 = .ok (.newarray .int, 2) := by decide +kernel
theorem dX5_init_449 : decode cX5_init 449 = .ok (.putfield 172, 3) := by decide +kernel
theorem dX5_init_452 : decode cX5_init 452 = .ok (.aload_n 0, 1) := by decide +kernel
theorem dX5_init_453 : decode cX5_init 453 = .ok (.bipush 120, 2) := by decide +kernel
theorem dX5_init_455 : decode cX5_init 455 = .ok (.newarray .int, 2) := by decide +kernel
theorem dX5_init_457 : decode cX5_init 457 = .ok (.putfield 175, 3) := by decide +kernel
theorem dX5_init_460 : decode cX5_init 460 = .ok (.return_, 1) := by decide +kernel
theorem dX5_thrown_0 : decode cX5_thrown 0 = .ok (.aload_n 0, 1) := by decide +kernel
theorem dX5_thrown_1 : decode cX5_thrown 1 = .ok (.getfield 178, 3) := by decide +kernel
theorem dX5_thrown_4 : decode cX5_thrown 4 = .ok (.ireturn, 1) := by decide +kernel
theorem dX5_feed_0 : decode cX5_feed 0 = .ok (.aload_n 0, 1) := by decide +kernel
theorem dX5_feed_1 : decode cX5_feed 1 = .ok (.iconst 0, 1) := by decide +kernel
theorem dX5_feed_2 : decode cX5_feed 2 = .ok (.putfield 178, 3) := by decide +kernel
theorem dX5_feed_5 : decode cX5_feed 5 = .ok (.aload_n 0, 1) := by decide +kernel
theorem dX5_feed_6 : decode cX5_feed 6 = .ok (.getfield 181, 3) := by decide +kernel
theorem dX5_feed_9 : decode cX5_feed 9 = .ok (.bipush 20, 2) := by decide +kernel
theorem dX5_feed_11 : decode cX5_feed 11 = .ok (.iadd, 1) := by decide +kernel
theorem dX5_feed_12 : decode cX5_feed 12 = .ok (.sipush 400, 3) := by decide +kernel
theorem dX5_feed_15 : decode cX5_feed 15 = .ok (.if_icmp .le 5, 3) := by decide +kernel
theorem dX5_feed_18 : decode cX5_feed 18 = .ok (.iconst (-1), 1) := by decide +kernel
theorem dX5_feed_19 : decode cX5_feed 19 = .ok (.ireturn, 1) := by decide +kernel
theorem dX5_feed_20 : decode cX5_feed 20 = .ok (.aload_n 0, 1) := by decide +kernel
theorem dX5_feed_21 : decode cX5_feed 21 = .ok (.getfield 17, 3) := by decide +kernel
theorem dX5_feed_24 : decode cX5_feed 24 = .ok (.iconst 0, 1) := by decide +kernel
theorem dX5_feed_25 : decode cX5_feed 25 = .ok (.iload_n 1, 1) := by decide +kernel
theorem dX5_feed_26 : decode cX5_feed 26 = .ok (.iastore, 1) := by decide +kernel
theorem dX5_feed_27 : decode cX5_feed 27 = .ok (.aload_n 0, 1) := by decide +kernel
theorem dX5_feed_28 : decode cX5_feed 28 = .ok (.getfield 17, 3) := by decide +kernel
theorem dX5_feed_31 : decode cX5_feed 31 = .ok (.iconst 1, 1) := by decide +kernel
theorem dX5_feed_32 : decode cX5_feed 32 = .ok (.iload_n 2, 1) := by decide +kernel
theorem dX5_feed_33 : decode cX5_feed 33 = .ok (.iastore, 1) := by decide +kernel
theorem dX5_feed_34 : decode cX5_feed 34 = .ok (.aload_n 0, 1) := by decide +kernel
theorem dX5_feed_35 : decode cX5_feed 35 = .ok (.getfield 17, 3) := by decide +kernel
theorem dX5_feed_38 : decode cX5_feed 38 = .ok (.iconst 2, 1) := by decide +kernel
theorem dX5_feed_39 : decode cX5_feed 39 = .ok (.iload_n 3, 1) := by decide +kernel
theorem dX5_feed_40 : decode cX5_feed 40 = .ok (.iastore, 1) := by decide +kernel
theorem dX5_feed_41 : decode cX5_feed 41 = .ok (.aload_n 0, 1) := by decide +kernel
theorem dX5_feed_42 : decode cX5_feed 42 = .ok (.getfield 17, 3) := by decide +kernel
theorem dX5_feed_45 : decode cX5_feed 45 = .ok (.iconst 3, 1) := by decide +kernel
theorem dX5_feed_46 : decode cX5_feed 46 = .ok (.iload 4, 2) := by decide +kernel
theorem dX5_feed_48 : decode cX5_feed 48 = .ok (.iastore, 1) := by decide +kernel
theorem dX5_feed_49 : decode cX5_feed 49 = .ok (.aload_n 0, 1) := by decide +kernel
theorem dX5_feed_50 : decode cX5_feed 50 = .ok (.getfield 17, 3) := by decide +kernel
theorem dX5_feed_53 : decode cX5_feed 53 = .ok (.iconst 4, 1) := by decide +kernel
theorem dX5_feed_54 : decode cX5_feed 54 = .ok (.iload 5, 2) := by decide +kernel
theorem dX5_feed_56 : decode cX5_feed 56 = .ok (.iastore, 1) := by decide +kernel
theorem dX5_feed_57 : decode cX5_feed 57 = .ok (.iconst 0, 1) := by decide +kernel
theorem dX5_feed_58 : decode cX5_feed 58 = .ok (.istore 6, 2) := by decide +kernel
theorem dX5_feed_60 : decode cX5_feed 60 = .ok (.iload 6, 2) := by decide +kernel
theorem dX5_feed_62 : decode cX5_feed 62 = .ok (.bipush 20, 2) := by decide +kernel
theorem dX5_feed_64 : decode cX5_feed 64 = .ok (.if_icmp .ge 42, 3) := by decide +kernel
theorem dX5_feed_67 : decode cX5_feed 67 = .ok (.aload_n 0, 1) := by decide +kernel
theorem dX5_feed_68 : decode cX5_feed 68 = .ok (.getfield 9, 3) := by decide +kernel
theorem dX5_feed_71 : decode cX5_feed 71 = .ok (.aload_n 0, 1) := by decide +kernel
theorem dX5_feed_72 : decode cX5_feed 72 = .ok (.getfield 181, 3) := by decide +kernel
theorem dX5_feed_75 : decode cX5_feed 75 = .ok (.iload 6, 2) := by decide +kernel
theorem dX5_feed_77 : decode cX5_feed 77 = .ok (.iadd, 1) := by decide +kernel
theorem dX5_feed_78 : decode cX5_feed 78 = .ok (.aload_n 0, 1) := by decide +kernel
theorem dX5_feed_79 : decode cX5_feed 79 = .ok (.getfield 17, 3) := by decide +kernel
theorem dX5_feed_82 : decode cX5_feed 82 = .ok (.iload 6, 2) := by decide +kernel
theorem dX5_feed_84 : decode cX5_feed 84 = .ok (.iconst 4, 1) := by decide +kernel
theorem dX5_feed_85 : decode cX5_feed 85 = .ok (.idiv, 1) := by decide +kernel
theorem dX5_feed_86 : decode cX5_feed 86 = .ok (.iaload, 1) := by decide +kernel
theorem dX5_feed_87 : decode cX5_feed 87 = .ok (.bipush 24, 2) := by decide +kernel
theorem dX5_feed_89 : decode cX5_feed 89 = .ok (.bipush 8, 2) := by decide +kernel
theorem dX5_feed_91 : decode cX5_feed 91 = .ok (.iload 6, 2) := by decide +kernel
theorem dX5_feed_93 : decode cX5_feed 93 = .ok (.iconst 4, 1) := by decide +kernel
theorem dX5_feed_94 : decode cX5_feed 94 = .ok (.irem, 1) := by decide +kernel
theorem dX5_feed_95 : decode cX5_feed 95 = .ok (.imul, 1) := by decide +kernel
theorem dX5_feed_96 : decode cX5_feed 96 = .ok (.isub, 1) := by decide +kernel
theorem dX5_feed_97 : decode cX5_feed 97 = .ok (.ishr, 1) := by decide +kernel
theorem dX5_feed_98 : decode cX5_feed 98 = .ok (.i2b, 1) := by decide +kernel
theorem dX5_feed_99 : decode cX5_feed 99 = .ok (.bastore, 1) := by decide +kernel
theorem dX5_feed_100 : decode cX5_feed 100 = .ok (.iinc 6 1, 3) := by decide +kernel
theorem dX5_feed_103 : decode cX5_feed 103 = .ok (.goto (-43), 3) := by decide +kernel
theorem dX5_feed_106 : decode cX5_feed 106 = .ok (.aload_n 0, 1) := by decide +kernel
theorem dX5_feed_107 : decode cX5_feed 107 = .ok (.dup, 1) := by decide +kernel
theorem dX5_feed_108 : decode cX5_feed 108 = .ok (.getfield 181, 3) := by decide +kernel
theorem dX5_feed_111 : decode cX5_feed 111 = .ok (.bipush 20, 2) := by decide +kernel
theorem dX5_feed_113 : decode cX5_feed 113 = .ok (.iadd, 1) := by decide +kernel
theorem dX5_feed_114 : decode cX5_feed 114 = .ok (.putfield 181, 3) := by decide +kernel
theorem dX5_feed_117 : decode cX5_feed 117 = .ok (.aload_n 0, 1) := by decide +kernel
theorem dX5_feed_118 : decode cX5_feed 118 = .ok (.getfield 181, 3) := by decide +kernel
theorem dX5_feed_121 : decode cX5_feed 121 = .ok (.ireturn, 1) := by decide +kernel
theorem dX5_end_0 : decode cX5_end 0 = .ok (.aload_n 0, 1) := by decide +kernel
theorem dX5_end_1 : decode cX5_end 1 = .ok (.iconst 0, 1) := by decide +kernel
theorem dX5_end_2 : decode cX5_end 2 = .ok (.putfield 178, 3) := by decide +kernel
theorem dX5_end_5 : decode cX5_end 5 = .ok (.iload_n 1, 1) := by decide +kernel
theorem dX5_end_6 : decode cX5_end 6 = .ok (.ifCond .lt 11, 3) := by decide +kernel
theorem dX5_end_9 : decode cX5_end 9 = .ok (.iload_n 1, 1) := by decide +kernel
theorem dX5_end_10 : decode cX5_end 10 = .ok (.aload_n 0, 1) := by decide +kernel
theorem dX5_end_11 : decode cX5_end 11 = .ok (.getfield 181, 3) := by decide +kernel
theorem dX5_end_14 : decode cX5_end 14 = .ok (.if_icmp .le 5, 3) := by decide +kernel
theorem dX5_end_17 : decode cX5_end 17 = .ok (.iconst 0, 1) := by decide +kernel
theorem dX5_end_18 : decode cX5_end 18 = .ok (.ireturn, 1) := by decide +kernel
theorem dX5_end_19 : decode cX5_end 19 = .ok (.aload_n 0, 1) := by decide +kernel
theorem dX5_end_20 : decode cX5_end 20 = .ok (.iload_n 1, 1) := by decide +kernel
theorem dX5_end_21 : decode cX5_end 21 = .ok (.putfield 181, 3) := by decide +kernel
theorem dX5_end_24 : decode cX5_end 24 = .ok (.iconst 1, 1) := by decide +kernel
theorem dX5_end_25 : decode cX5_end 25 = .ok (.ireturn, 1) := by decide +kernel
theorem dX5_fault_0 : decode cX5_fault 0 = .ok (.aload_n 0, 1) := by decide +kernel
theorem dX5_fault_1 : decode cX5_fault 1 = .ok (.iconst 0, 1) := by decide +kernel
theorem dX5_fault_2 : decode cX5_fault 2 = .ok (.putfield 178, 3) := by decide +kernel
theorem dX5_fault_5 : decode cX5_fault 5 = .ok (.aload_n 0, 1) := by decide +kernel
theorem dX5_fault_6 : decode cX5_fault 6 = .ok (.getfield 13, 3) := by decide +kernel
theorem dX5_fault_9 : decode cX5_fault 9 = .ok (.ireturn, 1) := by decide +kernel
theorem dX5_law_0 : decode cX5_law 0 = .ok (.aload_n 0, 1) := by decide +kernel
theorem dX5_law_1 : decode cX5_law 1 = .ok (.invokevirtual 311, 3) := by decide +kernel
theorem dX5_law_4 : decode cX5_law 4 = .ok (.aload_n 0, 1) := by decide +kernel
theorem dX5_law_5 : decode cX5_law 5 = .ok (.iload_n 1, 1) := by decide +kernel
theorem dX5_law_6 : decode cX5_law 6 = .ok (.aload_n 0, 1) := by decide +kernel
theorem dX5_law_7 : decode cX5_law 7 = .ok (.getfield 314, 3) := by decide +kernel
theorem dX5_law_10 : decode cX5_law 10 = .ok (.sipush 1000, 3) := by decide +kernel
theorem dX5_law_13 : decode cX5_law 13 = .ok (.invokestatic 317, 3) := by decide +kernel
theorem dX5_law_16 : decode cX5_law 16 = .ok (.ifCond .ne 7, 3) := by decide +kernel
theorem dX5_law_19 : decode cX5_law 19 = .ok (.iconst 1, 1) := by decide +kernel
theorem dX5_law_20 : decode cX5_law 20 = .ok (.goto 4, 3) := by decide +kernel
theorem dX5_law_23 : decode cX5_law 23 = .ok (.iconst 0, 1) := by decide +kernel
theorem dX5_law_24 : decode cX5_law 24 = .ok (.iconst 1, 1) := by decide +kernel
theorem dX5_law_25 : decode cX5_law 25 = .ok (.invokevirtual 321, 3) := by decide +kernel
theorem dX5_law_28 : decode cX5_law 28 = .ok (.ifCond .eq 5, 3) := by decide +kernel
theorem dX5_law_31 : decode cX5_law 31 = .ok (.iconst 0, 1) := by decide +kernel
theorem dX5_law_32 : decode cX5_law 32 = .ok (.ireturn, 1) := by decide +kernel
theorem dX5_law_33 : decode cX5_law 33 = .ok (.aload_n 0, 1) := by decide +kernel
theorem dX5_law_34 : decode cX5_law 34 = .ok (.invokevirtual 325, 3) := by decide +kernel
theorem dX5_law_37 : decode cX5_law 37 = .ok (.istore_n 2, 1) := by decide +kernel
theorem dX5_law_38 : decode cX5_law 38 = .ok (.aload_n 0, 1) := by decide +kernel
theorem dX5_law_39 : decode cX5_law 39 = .ok (.iload_n 2, 1) := by decide +kernel
theorem dX5_law_40 : decode cX5_law 40 = .ok (.ifCond .ge 10, 3) := by decide +kernel
theorem dX5_law_43 : decode cX5_law 43 = .ok (.aload_n 0, 1) := by decide +kernel
theorem dX5_law_44 : decode cX5_law 44 = .ok (.getfield 194, 3) := by decide +kernel
theorem dX5_law_47 : decode cX5_law 47 = .ok (.goto 4, 3) := by decide +kernel
theorem dX5_law_50 : decode cX5_law 50 = .ok (.iconst (-1), 1) := by decide +kernel
theorem dX5_law_51 : decode cX5_law 51 = .ok (.putfield 13, 3) := by decide +kernel
theorem dX5_law_54 : decode cX5_law 54 = .ok (.aload_n 0, 1) := by decide +kernel
theorem dX5_law_55 : decode cX5_law 55 = .ok (.iload_n 2, 1) := by decide +kernel
theorem dX5_law_56 : decode cX5_law 56 = .ok (.ifCond .ge 7, 3) := by decide +kernel
theorem dX5_law_59 : decode cX5_law 59 = .ok (.iconst 1, 1) := by decide +kernel
theorem dX5_law_60 : decode cX5_law 60 = .ok (.goto 4, 3) := by decide +kernel
theorem dX5_law_63 : decode cX5_law 63 = .ok (.iconst 0, 1) := by decide +kernel
theorem dX5_law_64 : decode cX5_law 64 = .ok (.iconst 1, 1) := by decide +kernel
theorem dX5_law_65 : decode cX5_law 65 = .ok (.invokevirtual 321, 3) := by decide +kernel
theorem dX5_law_68 : decode cX5_law 68 = .ok (.ifCond .ne 25, 3) := by decide +kernel
theorem dX5_law_71 : decode cX5_law 71 = .ok (.aload_n 0, 1) := by decide +kernel
theorem dX5_law_72 : decode cX5_law 72 = .ok (.aload_n 0, 1) := by decide +kernel
theorem dX5_law_73 : decode cX5_law 73 = .ok (.getfield 328, 3) := by decide +kernel
theorem dX5_law_76 : decode cX5_law 76 = .ok (.bipush 12, 2) := by decide +kernel
theorem dX5_law_78 : decode cX5_law 78 = .ok (.if_icmp .ne 7, 3) := by decide +kernel
theorem dX5_law_81 : decode cX5_law 81 = .ok (.iconst 1, 1) := by decide +kernel
theorem dX5_law_82 : decode cX5_law 82 = .ok (.goto 4, 3) := by decide +kernel
theorem dX5_law_85 : decode cX5_law 85 = .ok (.iconst 0, 1) := by decide +kernel
theorem dX5_law_86 : decode cX5_law 86 = .ok (.iconst 2, 1) := by decide +kernel
theorem dX5_law_87 : decode cX5_law 87 = .ok (.invokevirtual 321, 3) := by decide +kernel
theorem dX5_law_90 : decode cX5_law 90 = .ok (.ifCond .eq 5, 3) := by decide +kernel
theorem dX5_law_93 : decode cX5_law 93 = .ok (.iconst 0, 1) := by decide +kernel
theorem dX5_law_94 : decode cX5_law 94 = .ok (.ireturn, 1) := by decide +kernel
theorem dX5_law_95 : decode cX5_law 95 = .ok (.aload_n 0, 1) := by decide +kernel
theorem dX5_law_96 : decode cX5_law 96 = .ok (.getfield 21, 3) := by decide +kernel
theorem dX5_law_99 : decode cX5_law 99 = .ok (.aload_n 0, 1) := by decide +kernel
theorem dX5_law_100 : decode cX5_law 100 = .ok (.getfield 328, 3) := by decide +kernel
theorem dX5_law_103 : decode cX5_law 103 = .ok (.iload_n 1, 1) := by decide +kernel
theorem dX5_law_104 : decode cX5_law 104 = .ok (.iastore, 1) := by decide +kernel
theorem dX5_law_105 : decode cX5_law 105 = .ok (.aload_n 0, 1) := by decide +kernel
theorem dX5_law_106 : decode cX5_law 106 = .ok (.getfield 24, 3) := by decide +kernel
theorem dX5_law_109 : decode cX5_law 109 = .ok (.aload_n 0, 1) := by decide +kernel
theorem dX5_law_110 : decode cX5_law 110 = .ok (.getfield 328, 3) := by decide +kernel
theorem dX5_law_113 : decode cX5_law 113 = .ok (.iload_n 2, 1) := by decide +kernel
theorem dX5_law_114 : decode cX5_law 114 = .ok (.iastore, 1) := by decide +kernel
theorem dX5_law_115 : decode cX5_law 115 = .ok (.iconst 0, 1) := by decide +kernel
theorem dX5_law_116 : decode cX5_law 116 = .ok (.istore_n 3, 1) := by decide +kernel
theorem dX5_law_117 : decode cX5_law 117 = .ok (.iload_n 3, 1) := by decide +kernel
theorem dX5_law_118 : decode cX5_law 118 = .ok (.iload_n 2, 1) := by decide +kernel
theorem dX5_law_119 : decode cX5_law 119 = .ok (.if_icmp .ge 105, 3) := by decide +kernel
theorem dX5_law_122 : decode cX5_law 122 = .ok (.aload_n 0, 1) := by decide +kernel
theorem dX5_law_123 : decode cX5_law 123 = .ok (.getfield 27, 3) := by decide +kernel
theorem dX5_law_126 : decode cX5_law 126 = .ok (.bipush 16, 2) := by decide +kernel
theorem dX5_law_128 : decode cX5_law 128 = .ok (.aload_n 0, 1) := by decide +kernel
theorem dX5_law_129 : decode cX5_law 129 = .ok (.getfield 328, 3) := by decide +kernel
theorem dX5_law_132 : decode cX5_law 132 = .ok (.imul, 1) := by decide +kernel
theorem dX5_law_133 : decode cX5_law 133 = .ok (.iload_n 3, 1) := by decide +kernel
theorem dX5_law_134 : decode cX5_law 134 = .ok (.iadd, 1) := by decide +kernel
theorem dX5_law_135 : decode cX5_law 135 = .ok (.aload_n 0, 1) := by decide +kernel
theorem dX5_law_136 : decode cX5_law 136 = .ok (.getfield 27, 3) := by decide +kernel
theorem dX5_law_139 : decode cX5_law 139 = .ok (.sipush 192, 3) := by decide +kernel
theorem dX5_law_142 : decode cX5_law 142 = .ok (.iload_n 3, 1) := by decide +kernel
theorem dX5_law_143 : decode cX5_law 143 = .ok (.iadd, 1) := by decide +kernel
theorem dX5_law_144 : decode cX5_law 144 = .ok (.iaload, 1) := by decide +kernel
theorem dX5_law_145 : decode cX5_law 145 = .ok (.iastore, 1) := by decide +kernel
theorem dX5_law_146 : decode cX5_law 146 = .ok (.aload_n 0, 1) := by decide +kernel
theorem dX5_law_147 : decode cX5_law 147 = .ok (.getfield 30, 3) := by decide +kernel
theorem dX5_law_150 : decode cX5_law 150 = .ok (.bipush 16, 2) := by decide +kernel
theorem dX5_law_152 : decode cX5_law 152 = .ok (.aload_n 0, 1) := by decide +kernel
theorem dX5_law_153 : decode cX5_law 153 = .ok (.getfield 328, 3) := by decide +kernel
theorem dX5_law_156 : decode cX5_law 156 = .ok (.imul, 1) := by decide +kernel
theorem dX5_law_157 : decode cX5_law 157 = .ok (.iload_n 3, 1) := by decide +kernel
theorem dX5_law_158 : decode cX5_law 158 = .ok (.iadd, 1) := by decide +kernel
theorem dX5_law_159 : decode cX5_law 159 = .ok (.aload_n 0, 1) := by decide +kernel
theorem dX5_law_160 : decode cX5_law 160 = .ok (.getfield 30, 3) := by decide +kernel
theorem dX5_law_163 : decode cX5_law 163 = .ok (.sipush 192, 3) := by decide +kernel
theorem dX5_law_166 : decode cX5_law 166 = .ok (.iload_n 3, 1) := by decide +kernel
theorem dX5_law_167 : decode cX5_law 167 = .ok (.iadd, 1) := by decide +kernel
theorem dX5_law_168 : decode cX5_law 168 = .ok (.iaload, 1) := by decide +kernel
theorem dX5_law_169 : decode cX5_law 169 = .ok (.iastore, 1) := by decide +kernel
theorem dX5_law_170 : decode cX5_law 170 = .ok (.aload_n 0, 1) := by decide +kernel
theorem dX5_law_171 : decode cX5_law 171 = .ok (.getfield 33, 3) := by decide +kernel
theorem dX5_law_174 : decode cX5_law 174 = .ok (.bipush 16, 2) := by decide +kernel
theorem dX5_law_176 : decode cX5_law 176 = .ok (.aload_n 0, 1) := by decide +kernel
theorem dX5_law_177 : decode cX5_law 177 = .ok (.getfield 328, 3) := by decide +kernel
theorem dX5_law_180 : decode cX5_law 180 = .ok (.imul, 1) := by decide +kernel
theorem dX5_law_181 : decode cX5_law 181 = .ok (.iload_n 3, 1) := by decide +kernel
theorem dX5_law_182 : decode cX5_law 182 = .ok (.iadd, 1) := by decide +kernel
theorem dX5_law_183 : decode cX5_law 183 = .ok (.aload_n 0, 1) := by decide +kernel
theorem dX5_law_184 : decode cX5_law 184 = .ok (.getfield 33, 3) := by decide +kernel
theorem dX5_law_187 : decode cX5_law 187 = .ok (.sipush 192, 3) := by decide +kernel
theorem dX5_law_190 : decode cX5_law 190 = .ok (.iload_n 3, 1) := by decide +kernel
theorem dX5_law_191 : decode cX5_law 191 = .ok (.iadd, 1) := by decide +kernel
theorem dX5_law_192 : decode cX5_law 192 = .ok (.iaload, 1) := by decide +kernel
theorem dX5_law_193 : decode cX5_law 193 = .ok (.iastore, 1) := by decide +kernel
theorem dX5_law_194 : decode cX5_law 194 = .ok (.aload_n 0, 1) := by decide +kernel
theorem dX5_law_195 : decode cX5_law 195 = .ok (.getfield 36, 3) := by decide +kernel
theorem dX5_law_198 : decode cX5_law 198 = .ok (.bipush 16, 2) := by decide +kernel
theorem dX5_law_200 : decode cX5_law 200 = .ok (.aload_n 0, 1) := by decide +kernel
theorem dX5_law_201 : decode cX5_law 201 = .ok (.getfield 328, 3) := by decide +kernel
theorem dX5_law_204 : decode cX5_law 204 = .ok (.imul, 1) := by decide +kernel
theorem dX5_law_205 : decode cX5_law 205 = .ok (.iload_n 3, 1) := by decide +kernel
theorem dX5_law_206 : decode cX5_law 206 = .ok (.iadd, 1) := by decide +kernel
theorem dX5_law_207 : decode cX5_law 207 = .ok (.aload_n 0, 1) := by decide +kernel
theorem dX5_law_208 : decode cX5_law 208 = .ok (.getfield 36, 3) := by decide +kernel
theorem dX5_law_211 : decode cX5_law 211 = .ok (.sipush 192, 3) := by decide +kernel
theorem dX5_law_214 : decode cX5_law 214 = .ok (.iload_n 3, 1) := by decide +kernel
theorem dX5_law_215 : decode cX5_law 215 = .ok (.iadd, 1) := by decide +kernel
theorem dX5_law_216 : decode cX5_law 216 = .ok (.iaload, 1) := by decide +kernel
theorem dX5_law_217 : decode cX5_law 217 = .ok (.iastore, 1) := by decide +kernel
theorem dX5_law_218 : decode cX5_law 218 = .ok (.iinc 3 1, 3) := by decide +kernel
theorem dX5_law_221 : decode cX5_law 221 = .ok (.goto (-104), 3) := by decide +kernel
theorem dX5_law_224 : decode cX5_law 224 = .ok (.iconst 0, 1) := by decide +kernel
theorem dX5_law_225 : decode cX5_law 225 = .ok (.istore_n 3, 1) := by decide +kernel
theorem dX5_law_226 : decode cX5_law 226 = .ok (.iload_n 3, 1) := by decide +kernel
theorem dX5_law_227 : decode cX5_law 227 = .ok (.aload_n 0, 1) := by decide +kernel
theorem dX5_law_228 : decode cX5_law 228 = .ok (.getfield 217, 3) := by decide +kernel
theorem dX5_law_231 : decode cX5_law 231 = .ok (.if_icmp .ge 84, 3) := by decide +kernel
theorem dX5_law_234 : decode cX5_law 234 = .ok (.aload_n 0, 1) := by decide +kernel
theorem dX5_law_235 : decode cX5_law 235 = .ok (.getfield 39, 3) := by decide +kernel
theorem dX5_law_238 : decode cX5_law 238 = .ok (.sipush 400, 3) := by decide +kernel
theorem dX5_law_241 : decode cX5_law 241 = .ok (.aload_n 0, 1) := by decide +kernel
theorem dX5_law_242 : decode cX5_law 242 = .ok (.getfield 328, 3) := by decide +kernel
theorem dX5_law_245 : decode cX5_law 245 = .ok (.imul, 1) := by decide +kernel
theorem dX5_law_246 : decode cX5_law 246 = .ok (.iload_n 3, 1) := by decide +kernel
theorem dX5_law_247 : decode cX5_law 247 = .ok (.iadd, 1) := by decide +kernel
theorem dX5_law_248 : decode cX5_law 248 = .ok (.aload_n 0, 1) := by decide +kernel
theorem dX5_law_249 : decode cX5_law 249 = .ok (.getfield 39, 3) := by decide +kernel
theorem dX5_law_252 : decode cX5_law 252 = .ok (.sipush 4800, 3) := by decide +kernel
theorem dX5_law_255 : decode cX5_law 255 = .ok (.iload_n 3, 1) := by decide +kernel
theorem dX5_law_256 : decode cX5_law 256 = .ok (.iadd, 1) := by decide +kernel
theorem dX5_law_257 : decode cX5_law 257 = .ok (.iaload, 1) := by decide +kernel
theorem dX5_law_258 : decode cX5_law 258 = .ok (.iastore, 1) := by decide +kernel
theorem dX5_law_259 : decode cX5_law 259 = .ok (.aload_n 0, 1) := by decide +kernel
theorem dX5_law_260 : decode cX5_law 260 = .ok (.getfield 42, 3) := by decide +kernel
theorem dX5_law_263 : decode cX5_law 263 = .ok (.sipush 400, 3) := by decide +kernel
theorem dX5_law_266 : decode cX5_law 266 = .ok (.aload_n 0, 1) := by decide +kernel
theorem dX5_law_267 : decode cX5_law 267 = .ok (.getfield 328, 3) := by decide +kernel
theorem dX5_law_270 : decode cX5_law 270 = .ok (.imul, 1) := by decide +kernel
theorem dX5_law_271 : decode cX5_law 271 = .ok (.iload_n 3, 1) := by decide +kernel
theorem dX5_law_272 : decode cX5_law 272 = .ok (.iadd, 1) := by decide +kernel
theorem dX5_law_273 : decode cX5_law 273 = .ok (.aload_n 0, 1) := by decide +kernel
theorem dX5_law_274 : decode cX5_law 274 = .ok (.getfield 42, 3) := by decide +kernel
theorem dX5_law_277 : decode cX5_law 277 = .ok (.sipush 4800, 3) := by decide +kernel
theorem dX5_law_280 : decode cX5_law 280 = .ok (.iload_n 3, 1) := by decide +kernel
theorem dX5_law_281 : decode cX5_law 281 = .ok (.iadd, 1) := by decide +kernel
theorem dX5_law_282 : decode cX5_law 282 = .ok (.iaload, 1) := by decide +kernel
theorem dX5_law_283 : decode cX5_law 283 = .ok (.iastore, 1) := by decide +kernel
theorem dX5_law_284 : decode cX5_law 284 = .ok (.aload_n 0, 1) := by decide +kernel
theorem dX5_law_285 : decode cX5_law 285 = .ok (.getfield 45, 3) := by decide +kernel
theorem dX5_law_288 : decode cX5_law 288 = .ok (.sipush 400, 3) := by decide +kernel
theorem dX5_law_291 : decode cX5_law 291 = .ok (.aload_n 0, 1) := by decide +kernel
theorem dX5_law_292 : decode cX5_law 292 = .ok (.getfield 328, 3) := by decide +kernel
theorem dX5_law_295 : decode cX5_law 295 = .ok (.imul, 1) := by decide +kernel
theorem dX5_law_296 : decode cX5_law 296 = .ok (.iload_n 3, 1) := by decide +kernel
theorem dX5_law_297 : decode cX5_law 297 = .ok (.iadd, 1) := by decide +kernel
theorem dX5_law_298 : decode cX5_law 298 = .ok (.aload_n 0, 1) := by decide +kernel
theorem dX5_law_299 : decode cX5_law 299 = .ok (.getfield 45, 3) := by decide +kernel
theorem dX5_law_302 : decode cX5_law 302 = .ok (.sipush 4800, 3) := by decide +kernel
theorem dX5_law_305 : decode cX5_law 305 = .ok (.iload_n 3, 1) := by decide +kernel
theorem dX5_law_306 : decode cX5_law 306 = .ok (.iadd, 1) := by decide +kernel
theorem dX5_law_307 : decode cX5_law 307 = .ok (.iaload, 1) := by decide +kernel
theorem dX5_law_308 : decode cX5_law 308 = .ok (.iastore, 1) := by decide +kernel
theorem dX5_law_309 : decode cX5_law 309 = .ok (.iinc 3 1, 3) := by decide +kernel
theorem dX5_law_312 : decode cX5_law 312 = .ok (.goto (-86), 3) := by decide +kernel
theorem dX5_law_315 : decode cX5_law 315 = .ok (.aload_n 0, 1) := by decide +kernel
theorem dX5_law_316 : decode cX5_law 316 = .ok (.dup, 1) := by decide +kernel
theorem dX5_law_317 : decode cX5_law 317 = .ok (.getfield 328, 3) := by decide +kernel
theorem dX5_law_320 : decode cX5_law 320 = .ok (.iconst 1, 1) := by decide +kernel
theorem dX5_law_321 : decode cX5_law 321 = .ok (.iadd, 1) := by decide +kernel
theorem dX5_law_322 : decode cX5_law 322 = .ok (.putfield 328, 3) := by decide +kernel
theorem dX5_law_325 : decode cX5_law 325 = .ok (.iload_n 2, 1) := by decide +kernel
theorem dX5_law_326 : decode cX5_law 326 = .ok (.ireturn, 1) := by decide +kernel
theorem dX5_uses_0 : decode cX5_uses 0 = .ok (.aload_n 0, 1) := by decide +kernel
theorem dX5_uses_1 : decode cX5_uses 1 = .ok (.iconst 0, 1) := by decide +kernel
theorem dX5_uses_2 : decode cX5_uses 2 = .ok (.putfield 178, 3) := by decide +kernel
theorem dX5_uses_5 : decode cX5_uses 5 = .ok (.aload_n 0, 1) := by decide +kernel
theorem dX5_uses_6 : decode cX5_uses 6 = .ok (.aload_n 0, 1) := by decide +kernel
theorem dX5_uses_7 : decode cX5_uses 7 = .ok (.getfield 181, 3) := by decide +kernel
theorem dX5_uses_10 : decode cX5_uses 10 = .ok (.putfield 184, 3) := by decide +kernel
theorem dX5_uses_13 : decode cX5_uses 13 = .ok (.aload_n 0, 1) := by decide +kernel
theorem dX5_uses_14 : decode cX5_uses 14 = .ok (.iconst 0, 1) := by decide +kernel
theorem dX5_uses_15 : decode cX5_uses 15 = .ok (.putfield 181, 3) := by decide +kernel
theorem dX5_uses_18 : decode cX5_uses 18 = .ok (.aload_n 0, 1) := by decide +kernel
theorem dX5_uses_19 : decode cX5_uses 19 = .ok (.iconst 0, 1) := by decide +kernel
theorem dX5_uses_20 : decode cX5_uses 20 = .ok (.putfield 187, 3) := by decide +kernel
theorem dX5_uses_23 : decode cX5_uses 23 = .ok (.return_, 1) := by decide +kernel
theorem dX5_in_0 : decode cX5_in 0 = .ok (.iload_n 0, 1) := by decide +kernel
theorem dX5_in_1 : decode cX5_in 1 = .ok (.iload_n 1, 1) := by decide +kernel
theorem dX5_in_2 : decode cX5_in 2 = .ok (.if_icmp .lt 12, 3) := by decide +kernel
theorem dX5_in_5 : decode cX5_in 5 = .ok (.iload_n 0, 1) := by decide +kernel
theorem dX5_in_6 : decode cX5_in 6 = .ok (.iload_n 2, 1) := by decide +kernel
theorem dX5_in_7 : decode cX5_in 7 = .ok (.if_icmp .gt 7, 3) := by decide +kernel
theorem dX5_in_10 : decode cX5_in 10 = .ok (.iconst 1, 1) := by decide +kernel
theorem dX5_in_11 : decode cX5_in 11 = .ok (.goto 4, 3) := by decide +kernel
theorem dX5_in_14 : decode cX5_in 14 = .ok (.iconst 0, 1) := by decide +kernel
theorem dX5_in_15 : decode cX5_in 15 = .ok (.ireturn, 1) := by decide +kernel
theorem dX5_throwsIf_0 : decode cX5_throwsIf 0 = .ok (.iload_n 1, 1) := by decide +kernel
theorem dX5_throwsIf_1 : decode cX5_throwsIf 1 = .ok (.ifCond .eq 8, 3) := by decide +kernel
theorem dX5_throwsIf_4 : decode cX5_throwsIf 4 = .ok (.aload_n 0, 1) := by decide +kernel
theorem dX5_throwsIf_5 : decode cX5_throwsIf 5 = .ok (.iload_n 2, 1) := by decide +kernel
theorem dX5_throwsIf_6 : decode cX5_throwsIf 6 = .ok (.putfield 178, 3) := by decide +kernel
theorem dX5_throwsIf_9 : decode cX5_throwsIf 9 = .ok (.iload_n 1, 1) := by decide +kernel
theorem dX5_throwsIf_10 : decode cX5_throwsIf 10 = .ok (.ireturn, 1) := by decide +kernel
theorem dX5_readLaw_0 : decode cX5_readLaw 0 = .ok (.aload_n 0, 1) := by decide +kernel
theorem dX5_readLaw_1 : decode cX5_readLaw 1 = .ok (.iconst 0, 1) := by decide +kernel
theorem dX5_readLaw_2 : decode cX5_readLaw 2 = .ok (.putfield 217, 3) := by decide +kernel
theorem dX5_readLaw_5 : decode cX5_readLaw 5 = .ok (.aload_n 0, 1) := by decide +kernel
theorem dX5_readLaw_6 : decode cX5_readLaw 6 = .ok (.invokevirtual 197, 3) := by decide +kernel
theorem dX5_readLaw_9 : decode cX5_readLaw 9 = .ok (.aload_n 0, 1) := by decide +kernel
theorem dX5_readLaw_10 : decode cX5_readLaw 10 = .ok (.getfield 187, 3) := by decide +kernel
theorem dX5_readLaw_13 : decode cX5_readLaw 13 = .ok (.aload_n 0, 1) := by decide +kernel
theorem dX5_readLaw_14 : decode cX5_readLaw 14 = .ok (.getfield 184, 3) := by decide +kernel
theorem dX5_readLaw_17 : decode cX5_readLaw 17 = .ok (.if_icmp .ne 5, 3) := by decide +kernel
theorem dX5_readLaw_20 : decode cX5_readLaw 20 = .ok (.iconst 0, 1) := by decide +kernel
theorem dX5_readLaw_21 : decode cX5_readLaw 21 = .ok (.ireturn, 1) := by decide +kernel
theorem dX5_readLaw_22 : decode cX5_readLaw 22 = .ok (.iconst 0, 1) := by decide +kernel
theorem dX5_readLaw_23 : decode cX5_readLaw 23 = .ok (.istore_n 1, 1) := by decide +kernel
theorem dX5_readLaw_24 : decode cX5_readLaw 24 = .ok (.aload_n 0, 1) := by decide +kernel
theorem dX5_readLaw_25 : decode cX5_readLaw 25 = .ok (.iload_n 1, 1) := by decide +kernel
theorem dX5_readLaw_26 : decode cX5_readLaw 26 = .ok (.invokevirtual 308, 3) := by decide +kernel
theorem dX5_readLaw_29 : decode cX5_readLaw 29 = .ok (.ifCond .ne 5, 3) := by decide +kernel
theorem dX5_readLaw_32 : decode cX5_readLaw 32 = .ok (.iconst (-1), 1) := by decide +kernel
theorem dX5_readLaw_33 : decode cX5_readLaw 33 = .ok (.ireturn, 1) := by decide +kernel
theorem dX5_readLaw_34 : decode cX5_readLaw 34 = .ok (.aload_n 0, 1) := by decide +kernel
theorem dX5_readLaw_35 : decode cX5_readLaw 35 = .ok (.invokevirtual 197, 3) := by decide +kernel
theorem dX5_readLaw_38 : decode cX5_readLaw 38 = .ok (.aload_n 0, 1) := by decide +kernel
theorem dX5_readLaw_39 : decode cX5_readLaw 39 = .ok (.getfield 187, 3) := by decide +kernel
theorem dX5_readLaw_42 : decode cX5_readLaw 42 = .ok (.aload_n 0, 1) := by decide +kernel
theorem dX5_readLaw_43 : decode cX5_readLaw 43 = .ok (.getfield 184, 3) := by decide +kernel
theorem dX5_readLaw_46 : decode cX5_readLaw 46 = .ok (.if_icmp .ne 7, 3) := by decide +kernel
theorem dX5_readLaw_49 : decode cX5_readLaw 49 = .ok (.iload_n 1, 1) := by decide +kernel
theorem dX5_readLaw_50 : decode cX5_readLaw 50 = .ok (.iconst 1, 1) := by decide +kernel
theorem dX5_readLaw_51 : decode cX5_readLaw 51 = .ok (.iadd, 1) := by decide +kernel
theorem dX5_readLaw_52 : decode cX5_readLaw 52 = .ok (.ireturn, 1) := by decide +kernel
theorem dX5_readLaw_53 : decode cX5_readLaw 53 = .ok (.aload_n 0, 1) := by decide +kernel
theorem dX5_readLaw_54 : decode cX5_readLaw 54 = .ok (.bipush 59, 2) := by decide +kernel
theorem dX5_readLaw_56 : decode cX5_readLaw 56 = .ok (.bipush 59, 2) := by decide +kernel
theorem dX5_readLaw_58 : decode cX5_readLaw 58 = .ok (.invokevirtual 190, 3) := by decide +kernel
theorem dX5_readLaw_61 : decode cX5_readLaw 61 = .ok (.ifCond .ne 5, 3) := by decide +kernel
theorem dX5_readLaw_64 : decode cX5_readLaw 64 = .ok (.iconst (-1), 1) := by decide +kernel
theorem dX5_readLaw_65 : decode cX5_readLaw 65 = .ok (.ireturn, 1) := by decide +kernel
theorem dX5_readLaw_66 : decode cX5_readLaw 66 = .ok (.aload_n 0, 1) := by decide +kernel
theorem dX5_readLaw_67 : decode cX5_readLaw 67 = .ok (.dup, 1) := by decide +kernel
theorem dX5_readLaw_68 : decode cX5_readLaw 68 = .ok (.getfield 187, 3) := by decide +kernel
theorem dX5_readLaw_71 : decode cX5_readLaw 71 = .ok (.iconst 1, 1) := by decide +kernel
theorem dX5_readLaw_72 : decode cX5_readLaw 72 = .ok (.iadd, 1) := by decide +kernel
theorem dX5_readLaw_73 : decode cX5_readLaw 73 = .ok (.putfield 187, 3) := by decide +kernel
theorem dX5_readLaw_76 : decode cX5_readLaw 76 = .ok (.iinc 1 1, 3) := by decide +kernel
theorem dX5_readLaw_79 : decode cX5_readLaw 79 = .ok (.goto (-55), 3) := by decide +kernel
theorem dX5_blanksBetween_0 : decode cX5_blanksBetween 0 = .ok (.aload_n 0, 1) := by decide +kernel
theorem dX5_blanksBetween_1 : decode cX5_blanksBetween 1 = .ok (.bipush 32, 2) := by decide +kernel
theorem dX5_blanksBetween_3 : decode cX5_blanksBetween 3 = .ok (.bipush 32, 2) := by decide +kernel
theorem dX5_blanksBetween_5 : decode cX5_blanksBetween 5 = .ok (.invokevirtual 190, 3) := by decide +kernel
theorem dX5_blanksBetween_8 : decode cX5_blanksBetween 8 = .ok (.ifCond .eq 16, 3) := by decide +kernel
theorem dX5_blanksBetween_11 : decode cX5_blanksBetween 11 = .ok (.aload_n 0, 1) := by decide +kernel
theorem dX5_blanksBetween_12 : decode cX5_blanksBetween 12 = .ok (.dup, 1) := by decide +kernel
theorem dX5_blanksBetween_13 : decode cX5_blanksBetween 13 = .ok (.getfield 187, 3) := by decide +kernel
theorem dX5_blanksBetween_16 : decode cX5_blanksBetween 16 = .ok (.iconst 1, 1) := by decide +kernel
theorem dX5_blanksBetween_17 : decode cX5_blanksBetween 17 = .ok (.iadd, 1) := by decide +kernel
theorem dX5_blanksBetween_18 : decode cX5_blanksBetween 18 = .ok (.putfield 187, 3) := by decide +kernel
theorem dX5_blanksBetween_21 : decode cX5_blanksBetween 21 = .ok (.goto (-21), 3) := by decide +kernel
theorem dX5_blanksBetween_24 : decode cX5_blanksBetween 24 = .ok (.aload_n 0, 1) := by decide +kernel
theorem dX5_blanksBetween_25 : decode cX5_blanksBetween 25 = .ok (.aload_n 0, 1) := by decide +kernel
theorem dX5_blanksBetween_26 : decode cX5_blanksBetween 26 = .ok (.getfield 187, 3) := by decide +kernel
theorem dX5_blanksBetween_29 : decode cX5_blanksBetween 29 = .ok (.putfield 194, 3) := by decide +kernel
theorem dX5_blanksBetween_32 : decode cX5_blanksBetween 32 = .ok (.return_, 1) := by decide +kernel
theorem dX5_isAt_0 : decode cX5_isAt 0 = .ok (.aload_n 0, 1) := by decide +kernel
theorem dX5_isAt_1 : decode cX5_isAt 1 = .ok (.getfield 187, 3) := by decide +kernel
theorem dX5_isAt_4 : decode cX5_isAt 4 = .ok (.aload_n 0, 1) := by decide +kernel
theorem dX5_isAt_5 : decode cX5_isAt 5 = .ok (.getfield 184, 3) := by decide +kernel
theorem dX5_isAt_8 : decode cX5_isAt 8 = .ok (.if_icmp .ge 33, 3) := by decide +kernel
theorem dX5_isAt_11 : decode cX5_isAt 11 = .ok (.aload_n 0, 1) := by decide +kernel
theorem dX5_isAt_12 : decode cX5_isAt 12 = .ok (.getfield 9, 3) := by decide +kernel
theorem dX5_isAt_15 : decode cX5_isAt 15 = .ok (.aload_n 0, 1) := by decide +kernel
theorem dX5_isAt_16 : decode cX5_isAt 16 = .ok (.getfield 187, 3) := by decide +kernel
theorem dX5_isAt_19 : decode cX5_isAt 19 = .ok (.baload, 1) := by decide +kernel
theorem dX5_isAt_20 : decode cX5_isAt 20 = .ok (.iload_n 1, 1) := by decide +kernel
theorem dX5_isAt_21 : decode cX5_isAt 21 = .ok (.if_icmp .lt 20, 3) := by decide +kernel
theorem dX5_isAt_24 : decode cX5_isAt 24 = .ok (.aload_n 0, 1) := by decide +kernel
theorem dX5_isAt_25 : decode cX5_isAt 25 = .ok (.getfield 9, 3) := by decide +kernel
theorem dX5_isAt_28 : decode cX5_isAt 28 = .ok (.aload_n 0, 1) := by decide +kernel
theorem dX5_isAt_29 : decode cX5_isAt 29 = .ok (.getfield 187, 3) := by decide +kernel
theorem dX5_isAt_32 : decode cX5_isAt 32 = .ok (.baload, 1) := by decide +kernel
theorem dX5_isAt_33 : decode cX5_isAt 33 = .ok (.iload_n 2, 1) := by decide +kernel
theorem dX5_isAt_34 : decode cX5_isAt 34 = .ok (.if_icmp .gt 7, 3) := by decide +kernel
theorem dX5_isAt_37 : decode cX5_isAt 37 = .ok (.iconst 1, 1) := by decide +kernel
theorem dX5_isAt_38 : decode cX5_isAt 38 = .ok (.goto 4, 3) := by decide +kernel
theorem dX5_isAt_41 : decode cX5_isAt 41 = .ok (.iconst 0, 1) := by decide +kernel
theorem dX5_isAt_42 : decode cX5_isAt 42 = .ok (.ireturn, 1) := by decide +kernel
theorem dX5_readClause_0 : decode cX5_readClause 0 = .ok (.aload_n 0, 1) := by decide +kernel
theorem dX5_readClause_1 : decode cX5_readClause 1 = .ok (.invokevirtual 210, 3) := by decide +kernel
theorem dX5_readClause_4 : decode cX5_readClause 4 = .ok (.iload_n 1, 1) := by decide +kernel
theorem dX5_readClause_5 : decode cX5_readClause 5 = .ok (.bipush 16, 2) := by decide +kernel
theorem dX5_readClause_7 : decode cX5_readClause 7 = .ok (.if_icmp .ne 5, 3) := by decide +kernel
theorem dX5_readClause_10 : decode cX5_readClause 10 = .ok (.iconst 0, 1) := by decide +kernel
theorem dX5_readClause_11 : decode cX5_readClause 11 = .ok (.ireturn, 1) := by decide +kernel
theorem dX5_readClause_12 : decode cX5_readClause 12 = .ok (.sipush 192, 3) := by decide +kernel
theorem dX5_readClause_15 : decode cX5_readClause 15 = .ok (.iload_n 1, 1) := by decide +kernel
theorem dX5_readClause_16 : decode cX5_readClause 16 = .ok (.iadd, 1) := by decide +kernel
theorem dX5_readClause_17 : decode cX5_readClause 17 = .ok (.istore_n 2, 1) := by decide +kernel
theorem dX5_readClause_18 : decode cX5_readClause 18 = .ok (.aload_n 0, 1) := by decide +kernel
theorem dX5_readClause_19 : decode cX5_readClause 19 = .ok (.getfield 27, 3) := by decide +kernel
theorem dX5_readClause_22 : decode cX5_readClause 22 = .ok (.iload_n 2, 1) := by decide +kernel
theorem dX5_readClause_23 : decode cX5_readClause 23 = .ok (.aload_n 0, 1) := by decide +kernel
theorem dX5_readClause_24 : decode cX5_readClause 24 = .ok (.ldc_w 291, 3) := by decide +kernel
theorem dX5_readClause_27 : decode cX5_readClause 27 = .ok (.invokevirtual 213, 3) := by decide +kernel
theorem dX5_readClause_30 : decode cX5_readClause 30 = .ok (.ifCond .eq 7, 3) := by decide +kernel
theorem dX5_readClause_33 : decode cX5_readClause 33 = .ok (.iconst 0, 1) := by decide +kernel
theorem dX5_readClause_34 : decode cX5_readClause 34 = .ok (.goto 74, 3) := by decide +kernel
theorem dX5_readClause_37 : decode cX5_readClause 37 = .ok (.aload_n 0, 1) := by decide +kernel
theorem dX5_readClause_38 : decode cX5_readClause 38 = .ok (.ldc_w 293, 3) := by decide +kernel
theorem dX5_readClause_41 : decode cX5_readClause 41 = .ok (.invokevirtual 213, 3) := by decide +kernel
theorem dX5_readClause_44 : decode cX5_readClause 44 = .ok (.ifCond .eq 7, 3) := by decide +kernel
theorem dX5_readClause_47 : decode cX5_readClause 47 = .ok (.iconst 1, 1) := by decide +kernel
theorem dX5_readClause_48 : decode cX5_readClause 48 = .ok (.goto 60, 3) := by decide +kernel
theorem dX5_readClause_51 : decode cX5_readClause 51 = .ok (.aload_n 0, 1) := by decide +kernel
theorem dX5_readClause_52 : decode cX5_readClause 52 = .ok (.ldc_w 295, 3) := by decide +kernel
theorem dX5_readClause_55 : decode cX5_readClause 55 = .ok (.invokevirtual 213, 3) := by decide +kernel
theorem dX5_readClause_58 : decode cX5_readClause 58 = .ok (.ifCond .eq 7, 3) := by decide +kernel
theorem dX5_readClause_61 : decode cX5_readClause 61 = .ok (.iconst 2, 1) := by decide +kernel
theorem dX5_readClause_62 : decode cX5_readClause 62 = .ok (.goto 46, 3) := by decide +kernel
theorem dX5_readClause_65 : decode cX5_readClause 65 = .ok (.aload_n 0, 1) := by decide +kernel
theorem dX5_readClause_66 : decode cX5_readClause 66 = .ok (.ldc_w 297, 3) := by decide +kernel
theorem dX5_readClause_69 : decode cX5_readClause 69 = .ok (.invokevirtual 213, 3) := by decide +kernel
theorem dX5_readClause_72 : decode cX5_readClause 72 = .ok (.ifCond .eq 7, 3) := by decide +kernel
theorem dX5_readClause_75 : decode cX5_readClause 75 = .ok (.iconst 3, 1) := by decide +kernel
theorem dX5_readClause_76 : decode cX5_readClause 76 = .ok (.goto 32, 3) := by decide +kernel
theorem dX5_readClause_79 : decode cX5_readClause 79 = .ok (.aload_n 0, 1) := by decide +kernel
theorem dX5_readClause_80 : decode cX5_readClause 80 = .ok (.ldc_w 299, 3) := by decide +kernel
theorem dX5_readClause_83 : decode cX5_readClause 83 = .ok (.invokevirtual 213, 3) := by decide +kernel
theorem dX5_readClause_86 : decode cX5_readClause 86 = .ok (.ifCond .eq 7, 3) := by decide +kernel
theorem dX5_readClause_89 : decode cX5_readClause 89 = .ok (.iconst 4, 1) := by decide +kernel
theorem dX5_readClause_90 : decode cX5_readClause 90 = .ok (.goto 18, 3) := by decide +kernel
theorem dX5_readClause_93 : decode cX5_readClause 93 = .ok (.aload_n 0, 1) := by decide +kernel
theorem dX5_readClause_94 : decode cX5_readClause 94 = .ok (.ldc_w 301, 3) := by decide +kernel
theorem dX5_readClause_97 : decode cX5_readClause 97 = .ok (.invokevirtual 213, 3) := by decide +kernel
theorem dX5_readClause_100 : decode cX5_readClause 100 = .ok (.ifCond .eq 7, 3) := by decide +kernel
theorem dX5_readClause_103 : decode cX5_readClause 103 = .ok (.iconst 5, 1) := by decide +kernel
theorem dX5_readClause_104 : decode cX5_readClause 104 = .ok (.goto 4, 3) := by decide +kernel
theorem dX5_readClause_107 : decode cX5_readClause 107 = .ok (.iconst (-1), 1) := by decide +kernel
theorem dX5_readClause_108 : decode cX5_readClause 108 = .ok (.iastore, 1) := by decide +kernel
theorem dX5_readClause_109 : decode cX5_readClause 109 = .ok (.aload_n 0, 1) := by decide +kernel
theorem dX5_readClause_110 : decode cX5_readClause 110 = .ok (.getfield 27, 3) := by decide +kernel
theorem dX5_readClause_113 : decode cX5_readClause 113 = .ok (.iload_n 2, 1) := by decide +kernel
theorem dX5_readClause_114 : decode cX5_readClause 114 = .ok (.iaload, 1) := by decide +kernel
theorem dX5_readClause_115 : decode cX5_readClause 115 = .ok (.ifCond .ge 5, 3) := by decide +kernel
theorem dX5_readClause_118 : decode cX5_readClause 118 = .ok (.iconst 0, 1) := by decide +kernel
theorem dX5_readClause_119 : decode cX5_readClause 119 = .ok (.ireturn, 1) := by decide +kernel
theorem dX5_readClause_120 : decode cX5_readClause 120 = .ok (.aload_n 0, 1) := by decide +kernel
theorem dX5_readClause_121 : decode cX5_readClause 121 = .ok (.getfield 27, 3) := by decide +kernel
theorem dX5_readClause_124 : decode cX5_readClause 124 = .ok (.iload_n 2, 1) := by decide +kernel
theorem dX5_readClause_125 : decode cX5_readClause 125 = .ok (.iaload, 1) := by decide +kernel
theorem dX5_readClause_126 : decode cX5_readClause 126 = .ok (.ifCond .ne 52, 3) := by decide +kernel
theorem dX5_readClause_129 : decode cX5_readClause 129 = .ok (.aload_n 0, 1) := by decide +kernel
theorem dX5_readClause_130 : decode cX5_readClause 130 = .ok (.invokevirtual 210, 3) := by decide +kernel
theorem dX5_readClause_133 : decode cX5_readClause 133 = .ok (.iconst 0, 1) := by decide +kernel
theorem dX5_readClause_134 : decode cX5_readClause 134 = .ok (.istore_n 3, 1) := by decide +kernel
theorem dX5_readClause_135 : decode cX5_readClause 135 = .ok (.iload_n 3, 1) := by decide +kernel
theorem dX5_readClause_136 : decode cX5_readClause 136 = .ok (.bipush 8, 2) := by decide +kernel
theorem dX5_readClause_138 : decode cX5_readClause 138 = .ok (.if_icmp .ge 20, 3) := by decide +kernel
theorem dX5_readClause_141 : decode cX5_readClause 141 = .ok (.aload_n 0, 1) := by decide +kernel
theorem dX5_readClause_142 : decode cX5_readClause 142 = .ok (.iload_n 3, 1) := by decide +kernel
theorem dX5_readClause_143 : decode cX5_readClause 143 = .ok (.invokestatic 303, 3) := by decide +kernel
theorem dX5_readClause_146 : decode cX5_readClause 146 = .ok (.invokevirtual 213, 3) := by decide +kernel
theorem dX5_readClause_149 : decode cX5_readClause 149 = .ok (.ifCond .ne 9, 3) := by decide +kernel
theorem dX5_readClause_152 : decode cX5_readClause 152 = .ok (.iinc 3 1, 3) := by decide +kernel
theorem dX5_readClause_155 : decode cX5_readClause 155 = .ok (.goto (-20), 3) := by decide +kernel
theorem dX5_readClause_158 : decode cX5_readClause 158 = .ok (.iload_n 3, 1) := by decide +kernel
theorem dX5_readClause_159 : decode cX5_readClause 159 = .ok (.bipush 8, 2) := by decide +kernel
theorem dX5_readClause_161 : decode cX5_readClause 161 = .ok (.if_icmp .ne 5, 3) := by decide +kernel
theorem dX5_readClause_164 : decode cX5_readClause 164 = .ok (.iconst 0, 1) := by decide +kernel
theorem dX5_readClause_165 : decode cX5_readClause 165 = .ok (.ireturn, 1) := by decide +kernel
theorem dX5_readClause_166 : decode cX5_readClause 166 = .ok (.aload_n 0, 1) := by decide +kernel
theorem dX5_readClause_167 : decode cX5_readClause 167 = .ok (.getfield 30, 3) := by decide +kernel
theorem dX5_readClause_170 : decode cX5_readClause 170 = .ok (.iload_n 2, 1) := by decide +kernel
theorem dX5_readClause_171 : decode cX5_readClause 171 = .ok (.iconst 1, 1) := by decide +kernel
theorem dX5_readClause_172 : decode cX5_readClause 172 = .ok (.iload_n 3, 1) := by decide +kernel
theorem dX5_readClause_173 : decode cX5_readClause 173 = .ok (.ishl, 1) := by decide +kernel
theorem dX5_readClause_174 : decode cX5_readClause 174 = .ok (.iastore, 1) := by decide +kernel
theorem dX5_readClause_175 : decode cX5_readClause 175 = .ok (.goto 34, 3) := by decide +kernel
theorem dX5_readClause_178 : decode cX5_readClause 178 = .ok (.aload_n 0, 1) := by decide +kernel
theorem dX5_readClause_179 : decode cX5_readClause 179 = .ok (.getfield 27, 3) := by decide +kernel
theorem dX5_readClause_182 : decode cX5_readClause 182 = .ok (.iload_n 2, 1) := by decide +kernel
theorem dX5_readClause_183 : decode cX5_readClause 183 = .ok (.iaload, 1) := by decide +kernel
theorem dX5_readClause_184 : decode cX5_readClause 184 = .ok (.iconst 4, 1) := by decide +kernel
theorem dX5_readClause_185 : decode cX5_readClause 185 = .ok (.if_icmp .eq 24, 3) := by decide +kernel
theorem dX5_readClause_188 : decode cX5_readClause 188 = .ok (.aload_n 0, 1) := by decide +kernel
theorem dX5_readClause_189 : decode cX5_readClause 189 = .ok (.getfield 30, 3) := by decide +kernel
theorem dX5_readClause_192 : decode cX5_readClause 192 = .ok (.iload_n 2, 1) := by decide +kernel
theorem dX5_readClause_193 : decode cX5_readClause 193 = .ok (.aload_n 0, 1) := by decide +kernel
theorem dX5_readClause_194 : decode cX5_readClause 194 = .ok (.invokevirtual 281, 3) := by decide +kernel
theorem dX5_readClause_197 : decode cX5_readClause 197 = .ok (.iastore, 1) := by decide +kernel
theorem dX5_readClause_198 : decode cX5_readClause 198 = .ok (.aload_n 0, 1) := by decide +kernel
theorem dX5_readClause_199 : decode cX5_readClause 199 = .ok (.getfield 30, 3) := by decide +kernel
theorem dX5_readClause_202 : decode cX5_readClause 202 = .ok (.iload_n 2, 1) := by decide +kernel
theorem dX5_readClause_203 : decode cX5_readClause 203 = .ok (.iaload, 1) := by decide +kernel
theorem dX5_readClause_204 : decode cX5_readClause 204 = .ok (.ifCond .ge 5, 3) := by decide +kernel
theorem dX5_readClause_207 : decode cX5_readClause 207 = .ok (.iconst 0, 1) := by decide +kernel
theorem dX5_readClause_208 : decode cX5_readClause 208 = .ok (.ireturn, 1) := by decide +kernel
theorem dX5_readClause_209 : decode cX5_readClause 209 = .ok (.aload_n 0, 1) := by decide +kernel
theorem dX5_readClause_210 : decode cX5_readClause 210 = .ok (.getfield 33, 3) := by decide +kernel
theorem dX5_readClause_213 : decode cX5_readClause 213 = .ok (.iload_n 2, 1) := by decide +kernel
theorem dX5_readClause_214 : decode cX5_readClause 214 = .ok (.aload_n 0, 1) := by decide +kernel
theorem dX5_readClause_215 : decode cX5_readClause 215 = .ok (.getfield 217, 3) := by decide +kernel
theorem dX5_readClause_218 : decode cX5_readClause 218 = .ok (.iastore, 1) := by decide +kernel
theorem dX5_readClause_219 : decode cX5_readClause 219 = .ok (.aload_n 0, 1) := by decide +kernel
theorem dX5_readClause_220 : decode cX5_readClause 220 = .ok (.ldc_w 306, 3) := by decide +kernel
theorem dX5_readClause_223 : decode cX5_readClause 223 = .ok (.invokevirtual 267, 3) := by decide +kernel
theorem dX5_readClause_226 : decode cX5_readClause 226 = .ok (.ifCond .eq 17, 3) := by decide +kernel
theorem dX5_readClause_229 : decode cX5_readClause 229 = .ok (.aload_n 0, 1) := by decide +kernel
theorem dX5_readClause_230 : decode cX5_readClause 230 = .ok (.iconst 0, 1) := by decide +kernel
theorem dX5_readClause_231 : decode cX5_readClause 231 = .ok (.putfield 258, 3) := by decide +kernel
theorem dX5_readClause_234 : decode cX5_readClause 234 = .ok (.aload_n 0, 1) := by decide +kernel
theorem dX5_readClause_235 : decode cX5_readClause 235 = .ok (.invokevirtual 261, 3) := by decide +kernel
theorem dX5_readClause_238 : decode cX5_readClause 238 = .ok (.ifCond .ne 5, 3) := by decide +kernel
theorem dX5_readClause_241 : decode cX5_readClause 241 = .ok (.iconst 0, 1) := by decide +kernel
theorem dX5_readClause_242 : decode cX5_readClause 242 = .ok (.ireturn, 1) := by decide +kernel
theorem dX5_readClause_243 : decode cX5_readClause 243 = .ok (.aload_n 0, 1) := by decide +kernel
theorem dX5_readClause_244 : decode cX5_readClause 244 = .ok (.getfield 36, 3) := by decide +kernel
theorem dX5_readClause_247 : decode cX5_readClause 247 = .ok (.iload_n 2, 1) := by decide +kernel
theorem dX5_readClause_248 : decode cX5_readClause 248 = .ok (.aload_n 0, 1) := by decide +kernel
theorem dX5_readClause_249 : decode cX5_readClause 249 = .ok (.getfield 217, 3) := by decide +kernel
theorem dX5_readClause_252 : decode cX5_readClause 252 = .ok (.iastore, 1) := by decide +kernel
theorem dX5_readClause_253 : decode cX5_readClause 253 = .ok (.iconst 1, 1) := by decide +kernel
theorem dX5_readClause_254 : decode cX5_readClause 254 = .ok (.ireturn, 1) := by decide +kernel
theorem dX5_word_0 : decode cX5_word 0 = .ok (.aload_n 0, 1) := by decide +kernel
theorem dX5_word_1 : decode cX5_word 1 = .ok (.invokevirtual 197, 3) := by decide +kernel
theorem dX5_word_4 : decode cX5_word 4 = .ok (.aload_n 0, 1) := by decide +kernel
theorem dX5_word_5 : decode cX5_word 5 = .ok (.bipush 97, 2) := by decide +kernel
theorem dX5_word_7 : decode cX5_word 7 = .ok (.bipush 122, 2) := by decide +kernel
theorem dX5_word_9 : decode cX5_word 9 = .ok (.invokevirtual 190, 3) := by decide +kernel
theorem dX5_word_12 : decode cX5_word 12 = .ok (.ifCond .eq 16, 3) := by decide +kernel
theorem dX5_word_15 : decode cX5_word 15 = .ok (.aload_n 0, 1) := by decide +kernel
theorem dX5_word_16 : decode cX5_word 16 = .ok (.dup, 1) := by decide +kernel
theorem dX5_word_17 : decode cX5_word 17 = .ok (.getfield 187, 3) := by decide +kernel
theorem dX5_word_20 : decode cX5_word 20 = .ok (.iconst 1, 1) := by decide +kernel
theorem dX5_word_21 : decode cX5_word 21 = .ok (.iadd, 1) := by decide +kernel
theorem dX5_word_22 : decode cX5_word 22 = .ok (.putfield 187, 3) := by decide +kernel
theorem dX5_word_25 : decode cX5_word 25 = .ok (.goto (-21), 3) := by decide +kernel
theorem dX5_word_28 : decode cX5_word 28 = .ok (.return_, 1) := by decide +kernel
theorem dX5_isWord_0 : decode cX5_isWord 0 = .ok (.aload_n 0, 1) := by decide +kernel
theorem dX5_isWord_1 : decode cX5_isWord 1 = .ok (.getfield 187, 3) := by decide +kernel
theorem dX5_isWord_4 : decode cX5_isWord 4 = .ok (.aload_n 0, 1) := by decide +kernel
theorem dX5_isWord_5 : decode cX5_isWord 5 = .ok (.getfield 194, 3) := by decide +kernel
theorem dX5_isWord_8 : decode cX5_isWord 8 = .ok (.isub, 1) := by decide +kernel
theorem dX5_isWord_9 : decode cX5_isWord 9 = .ok (.aload_n 1, 1) := by decide +kernel
theorem dX5_isWord_10 : decode cX5_isWord 10 = .ok (.invokevirtual 200, 3) := by decide +kernel
theorem dX5_isWord_13 : decode cX5_isWord 13 = .ok (.if_icmp .ne 7, 3) := by decide +kernel
theorem dX5_isWord_16 : decode cX5_isWord 16 = .ok (.iconst 1, 1) := by decide +kernel
theorem dX5_isWord_17 : decode cX5_isWord 17 = .ok (.goto 4, 3) := by decide +kernel
theorem dX5_isWord_20 : decode cX5_isWord 20 = .ok (.iconst 0, 1) := by decide +kernel
theorem dX5_isWord_21 : decode cX5_isWord 21 = .ok (.istore_n 2, 1) := by decide +kernel
theorem dX5_isWord_22 : decode cX5_isWord 22 = .ok (.iconst 0, 1) := by decide +kernel
theorem dX5_isWord_23 : decode cX5_isWord 23 = .ok (.istore_n 3, 1) := by decide +kernel
theorem dX5_isWord_24 : decode cX5_isWord 24 = .ok (.iload_n 2, 1) := by decide +kernel
theorem dX5_isWord_25 : decode cX5_isWord 25 = .ok (.ifCond .eq 42, 3) := by decide +kernel
theorem dX5_isWord_28 : decode cX5_isWord 28 = .ok (.iload_n 3, 1) := by decide +kernel
theorem dX5_isWord_29 : decode cX5_isWord 29 = .ok (.aload_n 1, 1) := by decide +kernel
theorem dX5_isWord_30 : decode cX5_isWord 30 = .ok (.invokevirtual 200, 3) := by decide +kernel
theorem dX5_isWord_33 : decode cX5_isWord 33 = .ok (.if_icmp .ge 34, 3) := by decide +kernel
theorem dX5_isWord_36 : decode cX5_isWord 36 = .ok (.aload_n 0, 1) := by decide +kernel
theorem dX5_isWord_37 : decode cX5_isWord 37 = .ok (.getfield 9, 3) := by decide +kernel
theorem dX5_isWord_40 : decode cX5_isWord 40 = .ok (.aload_n 0, 1) := by decide +kernel
theorem dX5_isWord_41 : decode cX5_isWord 41 = .ok (.getfield 194, 3) := by decide +kernel
theorem dX5_isWord_44 : decode cX5_isWord 44 = .ok (.iload_n 3, 1) := by decide +kernel
theorem dX5_isWord_45 : decode cX5_isWord 45 = .ok (.iadd, 1) := by decide +kernel
theorem dX5_isWord_46 : decode cX5_isWord 46 = .ok (.baload, 1) := by decide +kernel
theorem dX5_isWord_47 : decode cX5_isWord 47 = .ok (.aload_n 1, 1) := by decide +kernel
theorem dX5_isWord_48 : decode cX5_isWord 48 = .ok (.iload_n 3, 1) := by decide +kernel
theorem dX5_isWord_49 : decode cX5_isWord 49 = .ok (.invokevirtual 206, 3) := by decide +kernel
theorem dX5_isWord_52 : decode cX5_isWord 52 = .ok (.if_icmp .ne 7, 3) := by decide +kernel
theorem dX5_isWord_55 : decode cX5_isWord 55 = .ok (.iconst 1, 1) := by decide +kernel
theorem dX5_isWord_56 : decode cX5_isWord 56 = .ok (.goto 4, 3) := by decide +kernel
theorem dX5_isWord_59 : decode cX5_isWord 59 = .ok (.iconst 0, 1) := by decide +kernel
theorem dX5_isWord_60 : decode cX5_isWord 60 = .ok (.istore_n 2, 1) := by decide +kernel
theorem dX5_isWord_61 : decode cX5_isWord 61 = .ok (.iinc 3 1, 3) := by decide +kernel
theorem dX5_isWord_64 : decode cX5_isWord 64 = .ok (.goto (-40), 3) := by decide +kernel
theorem dX5_isWord_67 : decode cX5_isWord 67 = .ok (.iload_n 2, 1) := by decide +kernel
theorem dX5_isWord_68 : decode cX5_isWord 68 = .ok (.ireturn, 1) := by decide +kernel
theorem dX5_item_0 : decode cX5_item 0 = .ok (.iload_n 0, 1) := by decide +kernel
theorem dX5_item_1 : decode cX5_item 1 = .ok (.tableswitch 64 0 6 #[43, 46, 49, 52, 55, 58, 61], 43) := by decide +kernel
theorem dX5_item_44 : decode cX5_item 44 = .ok (.ldc 238, 2) := by decide +kernel
theorem dX5_item_46 : decode cX5_item 46 = .ok (.areturn, 1) := by decide +kernel
theorem dX5_item_47 : decode cX5_item 47 = .ok (.ldc 240, 2) := by decide +kernel
theorem dX5_item_49 : decode cX5_item 49 = .ok (.areturn, 1) := by decide +kernel
theorem dX5_item_50 : decode cX5_item 50 = .ok (.ldc 242, 2) := by decide +kernel
theorem dX5_item_52 : decode cX5_item 52 = .ok (.areturn, 1) := by decide +kernel
theorem dX5_item_53 : decode cX5_item 53 = .ok (.ldc 244, 2) := by decide +kernel
theorem dX5_item_55 : decode cX5_item 55 = .ok (.areturn, 1) := by decide +kernel
theorem dX5_item_56 : decode cX5_item 56 = .ok (.ldc 246, 2) := by decide +kernel
theorem dX5_item_58 : decode cX5_item 58 = .ok (.areturn, 1) := by decide +kernel
theorem dX5_item_59 : decode cX5_item 59 = .ok (.ldc 248, 2) := by decide +kernel
theorem dX5_item_61 : decode cX5_item 61 = .ok (.areturn, 1) := by decide +kernel
theorem dX5_item_62 : decode cX5_item 62 = .ok (.ldc 250, 2) := by decide +kernel
theorem dX5_item_64 : decode cX5_item 64 = .ok (.areturn, 1) := by decide +kernel
theorem dX5_item_65 : decode cX5_item 65 = .ok (.ldc 252, 2) := by decide +kernel
theorem dX5_item_67 : decode cX5_item 67 = .ok (.areturn, 1) := by decide +kernel
theorem dX5_number_0 : decode cX5_number 0 = .ok (.aload_n 0, 1) := by decide +kernel
theorem dX5_number_1 : decode cX5_number 1 = .ok (.invokevirtual 197, 3) := by decide +kernel
theorem dX5_number_4 : decode cX5_number 4 = .ok (.iconst 0, 1) := by decide +kernel
theorem dX5_number_5 : decode cX5_number 5 = .ok (.istore_n 1, 1) := by decide +kernel
theorem dX5_number_6 : decode cX5_number 6 = .ok (.aload_n 0, 1) := by decide +kernel
theorem dX5_number_7 : decode cX5_number 7 = .ok (.bipush 48, 2) := by decide +kernel
theorem dX5_number_9 : decode cX5_number 9 = .ok (.bipush 57, 2) := by decide +kernel
theorem dX5_number_11 : decode cX5_number 11 = .ok (.invokevirtual 190, 3) := by decide +kernel
theorem dX5_number_14 : decode cX5_number 14 = .ok (.ifCond .eq 51, 3) := by decide +kernel
theorem dX5_number_17 : decode cX5_number 17 = .ok (.aload_n 0, 1) := by decide +kernel
theorem dX5_number_18 : decode cX5_number 18 = .ok (.getfield 187, 3) := by decide +kernel
theorem dX5_number_21 : decode cX5_number 21 = .ok (.aload_n 0, 1) := by decide +kernel
theorem dX5_number_22 : decode cX5_number 22 = .ok (.getfield 194, 3) := by decide +kernel
theorem dX5_number_25 : decode cX5_number 25 = .ok (.isub, 1) := by decide +kernel
theorem dX5_number_26 : decode cX5_number 26 = .ok (.iconst 4, 1) := by decide +kernel
theorem dX5_number_27 : decode cX5_number 27 = .ok (.if_icmp .ge 23, 3) := by decide +kernel
theorem dX5_number_30 : decode cX5_number 30 = .ok (.bipush 10, 2) := by decide +kernel
theorem dX5_number_32 : decode cX5_number 32 = .ok (.iload_n 1, 1) := by decide +kernel
theorem dX5_number_33 : decode cX5_number 33 = .ok (.imul, 1) := by decide +kernel
theorem dX5_number_34 : decode cX5_number 34 = .ok (.aload_n 0, 1) := by decide +kernel
theorem dX5_number_35 : decode cX5_number 35 = .ok (.getfield 9, 3) := by decide +kernel
theorem dX5_number_38 : decode cX5_number 38 = .ok (.aload_n 0, 1) := by decide +kernel
theorem dX5_number_39 : decode cX5_number 39 = .ok (.getfield 187, 3) := by decide +kernel
theorem dX5_number_42 : decode cX5_number 42 = .ok (.baload, 1) := by decide +kernel
theorem dX5_number_43 : decode cX5_number 43 = .ok (.iadd, 1) := by decide +kernel
theorem dX5_number_44 : decode cX5_number 44 = .ok (.bipush 48, 2) := by decide +kernel
theorem dX5_number_46 : decode cX5_number 46 = .ok (.isub, 1) := by decide +kernel
theorem dX5_number_47 : decode cX5_number 47 = .ok (.goto 4, 3) := by decide +kernel
theorem dX5_number_50 : decode cX5_number 50 = .ok (.iload_n 1, 1) := by decide +kernel
theorem dX5_number_51 : decode cX5_number 51 = .ok (.istore_n 1, 1) := by decide +kernel
theorem dX5_number_52 : decode cX5_number 52 = .ok (.aload_n 0, 1) := by decide +kernel
theorem dX5_number_53 : decode cX5_number 53 = .ok (.dup, 1) := by decide +kernel
theorem dX5_number_54 : decode cX5_number 54 = .ok (.getfield 187, 3) := by decide +kernel
theorem dX5_number_57 : decode cX5_number 57 = .ok (.iconst 1, 1) := by decide +kernel
theorem dX5_number_58 : decode cX5_number 58 = .ok (.iadd, 1) := by decide +kernel
theorem dX5_number_59 : decode cX5_number 59 = .ok (.putfield 187, 3) := by decide +kernel
theorem dX5_number_62 : decode cX5_number 62 = .ok (.goto (-56), 3) := by decide +kernel
theorem dX5_number_65 : decode cX5_number 65 = .ok (.aload_n 0, 1) := by decide +kernel
theorem dX5_number_66 : decode cX5_number 66 = .ok (.getfield 187, 3) := by decide +kernel
theorem dX5_number_69 : decode cX5_number 69 = .ok (.aload_n 0, 1) := by decide +kernel
theorem dX5_number_70 : decode cX5_number 70 = .ok (.getfield 194, 3) := by decide +kernel
theorem dX5_number_73 : decode cX5_number 73 = .ok (.if_icmp .eq 16, 3) := by decide +kernel
theorem dX5_number_76 : decode cX5_number 76 = .ok (.aload_n 0, 1) := by decide +kernel
theorem dX5_number_77 : decode cX5_number 77 = .ok (.getfield 187, 3) := by decide +kernel
theorem dX5_number_80 : decode cX5_number 80 = .ok (.aload_n 0, 1) := by decide +kernel
theorem dX5_number_81 : decode cX5_number 81 = .ok (.getfield 194, 3) := by decide +kernel
theorem dX5_number_84 : decode cX5_number 84 = .ok (.isub, 1) := by decide +kernel
theorem dX5_number_85 : decode cX5_number 85 = .ok (.iconst 4, 1) := by decide +kernel
theorem dX5_number_86 : decode cX5_number 86 = .ok (.if_icmp .le 7, 3) := by decide +kernel
theorem dX5_number_89 : decode cX5_number 89 = .ok (.iconst (-1), 1) := by decide +kernel
theorem dX5_number_90 : decode cX5_number 90 = .ok (.goto 4, 3) := by decide +kernel
theorem dX5_number_93 : decode cX5_number 93 = .ok (.iload_n 1, 1) := by decide +kernel
theorem dX5_number_94 : decode cX5_number 94 = .ok (.ireturn, 1) := by decide +kernel
theorem dX5_passes_0 : decode cX5_passes 0 = .ok (.aload_n 0, 1) := by decide +kernel
theorem dX5_passes_1 : decode cX5_passes 1 = .ok (.invokevirtual 210, 3) := by decide +kernel
theorem dX5_passes_4 : decode cX5_passes 4 = .ok (.aload_n 0, 1) := by decide +kernel
theorem dX5_passes_5 : decode cX5_passes 5 = .ok (.aload_n 1, 1) := by decide +kernel
theorem dX5_passes_6 : decode cX5_passes 6 = .ok (.invokevirtual 213, 3) := by decide +kernel
theorem dX5_passes_9 : decode cX5_passes 9 = .ok (.ifCond .eq 5, 3) := by decide +kernel
theorem dX5_passes_12 : decode cX5_passes 12 = .ok (.iconst 1, 1) := by decide +kernel
theorem dX5_passes_13 : decode cX5_passes 13 = .ok (.ireturn, 1) := by decide +kernel
theorem dX5_passes_14 : decode cX5_passes 14 = .ok (.aload_n 0, 1) := by decide +kernel
theorem dX5_passes_15 : decode cX5_passes 15 = .ok (.aload_n 0, 1) := by decide +kernel
theorem dX5_passes_16 : decode cX5_passes 16 = .ok (.getfield 194, 3) := by decide +kernel
theorem dX5_passes_19 : decode cX5_passes 19 = .ok (.putfield 187, 3) := by decide +kernel
theorem dX5_passes_22 : decode cX5_passes 22 = .ok (.iconst 0, 1) := by decide +kernel
theorem dX5_passes_23 : decode cX5_passes 23 = .ok (.ireturn, 1) := by decide +kernel
theorem dX5_readCond_0 : decode cX5_readCond 0 = .ok (.aload_n 0, 1) := by decide +kernel
theorem dX5_readCond_1 : decode cX5_readCond 1 = .ok (.invokevirtual 286, 3) := by decide +kernel
theorem dX5_readCond_4 : decode cX5_readCond 4 = .ok (.ifCond .ne 5, 3) := by decide +kernel
theorem dX5_readCond_7 : decode cX5_readCond 7 = .ok (.iconst 0, 1) := by decide +kernel
theorem dX5_readCond_8 : decode cX5_readCond 8 = .ok (.ireturn, 1) := by decide +kernel
theorem dX5_readCond_9 : decode cX5_readCond 9 = .ok (.aload_n 0, 1) := by decide +kernel
theorem dX5_readCond_10 : decode cX5_readCond 10 = .ok (.ldc_w 289, 3) := by decide +kernel
theorem dX5_readCond_13 : decode cX5_readCond 13 = .ok (.invokevirtual 267, 3) := by decide +kernel
theorem dX5_readCond_16 : decode cX5_readCond 16 = .ok (.ifCond .eq 23, 3) := by decide +kernel
theorem dX5_readCond_19 : decode cX5_readCond 19 = .ok (.aload_n 0, 1) := by decide +kernel
theorem dX5_readCond_20 : decode cX5_readCond 20 = .ok (.invokevirtual 286, 3) := by decide +kernel
theorem dX5_readCond_23 : decode cX5_readCond 23 = .ok (.ifCond .ne 5, 3) := by decide +kernel
theorem dX5_readCond_26 : decode cX5_readCond 26 = .ok (.iconst 0, 1) := by decide +kernel
theorem dX5_readCond_27 : decode cX5_readCond 27 = .ok (.ireturn, 1) := by decide +kernel
theorem dX5_readCond_28 : decode cX5_readCond 28 = .ok (.aload_n 0, 1) := by decide +kernel
theorem dX5_readCond_29 : decode cX5_readCond 29 = .ok (.bipush 102, 2) := by decide +kernel
theorem dX5_readCond_31 : decode cX5_readCond 31 = .ok (.iconst 0, 1) := by decide +kernel
theorem dX5_readCond_32 : decode cX5_readCond 32 = .ok (.iconst 0, 1) := by decide +kernel
theorem dX5_readCond_33 : decode cX5_readCond 33 = .ok (.invokevirtual 273, 3) := by decide +kernel
theorem dX5_readCond_36 : decode cX5_readCond 36 = .ok (.goto (-27), 3) := by decide +kernel
theorem dX5_readCond_39 : decode cX5_readCond 39 = .ok (.iconst 1, 1) := by decide +kernel
theorem dX5_readCond_40 : decode cX5_readCond 40 = .ok (.ireturn, 1) := by decide +kernel
theorem dX5_readAllOf_0 : decode cX5_readAllOf 0 = .ok (.aload_n 0, 1) := by decide +kernel
theorem dX5_readAllOf_1 : decode cX5_readAllOf 1 = .ok (.invokevirtual 270, 3) := by decide +kernel
theorem dX5_readAllOf_4 : decode cX5_readAllOf 4 = .ok (.ifCond .ne 5, 3) := by decide +kernel
theorem dX5_readAllOf_7 : decode cX5_readAllOf 7 = .ok (.iconst 0, 1) := by decide +kernel
theorem dX5_readAllOf_8 : decode cX5_readAllOf 8 = .ok (.ireturn, 1) := by decide +kernel
theorem dX5_readAllOf_9 : decode cX5_readAllOf 9 = .ok (.aload_n 0, 1) := by decide +kernel
theorem dX5_readAllOf_10 : decode cX5_readAllOf 10 = .ok (.ldc_w 284, 3) := by decide +kernel
theorem dX5_readAllOf_13 : decode cX5_readAllOf 13 = .ok (.invokevirtual 267, 3) := by decide +kernel
theorem dX5_readAllOf_16 : decode cX5_readAllOf 16 = .ok (.ifCond .eq 23, 3) := by decide +kernel
theorem dX5_readAllOf_19 : decode cX5_readAllOf 19 = .ok (.aload_n 0, 1) := by decide +kernel
theorem dX5_readAllOf_20 : decode cX5_readAllOf 20 = .ok (.invokevirtual 270, 3) := by decide +kernel
theorem dX5_readAllOf_23 : decode cX5_readAllOf 23 = .ok (.ifCond .ne 5, 3) := by decide +kernel
theorem dX5_readAllOf_26 : decode cX5_readAllOf 26 = .ok (.iconst 0, 1) := by decide +kernel
theorem dX5_readAllOf_27 : decode cX5_readAllOf 27 = .ok (.ireturn, 1) := by decide +kernel
theorem dX5_readAllOf_28 : decode cX5_readAllOf 28 = .ok (.aload_n 0, 1) := by decide +kernel
theorem dX5_readAllOf_29 : decode cX5_readAllOf 29 = .ok (.bipush 101, 2) := by decide +kernel
theorem dX5_readAllOf_31 : decode cX5_readAllOf 31 = .ok (.iconst 0, 1) := by decide +kernel
theorem dX5_readAllOf_32 : decode cX5_readAllOf 32 = .ok (.iconst 0, 1) := by decide +kernel
theorem dX5_readAllOf_33 : decode cX5_readAllOf 33 = .ok (.invokevirtual 273, 3) := by decide +kernel
theorem dX5_readAllOf_36 : decode cX5_readAllOf 36 = .ok (.goto (-27), 3) := by decide +kernel
theorem dX5_readAllOf_39 : decode cX5_readAllOf 39 = .ok (.iconst 1, 1) := by decide +kernel
theorem dX5_readAllOf_40 : decode cX5_readAllOf 40 = .ok (.ireturn, 1) := by decide +kernel
theorem dX5_readAtom_0 : decode cX5_readAtom 0 = .ok (.aload_n 0, 1) := by decide +kernel
theorem dX5_readAtom_1 : decode cX5_readAtom 1 = .ok (.bipush 40, 2) := by decide +kernel
theorem dX5_readAtom_3 : decode cX5_readAtom 3 = .ok (.invokevirtual 254, 3) := by decide +kernel
theorem dX5_readAtom_6 : decode cX5_readAtom 6 = .ok (.ifCond .eq 50, 3) := by decide +kernel
theorem dX5_readAtom_9 : decode cX5_readAtom 9 = .ok (.aload_n 0, 1) := by decide +kernel
theorem dX5_readAtom_10 : decode cX5_readAtom 10 = .ok (.getfield 258, 3) := by decide +kernel
theorem dX5_readAtom_13 : decode cX5_readAtom 13 = .ok (.bipush 8, 2) := by decide +kernel
theorem dX5_readAtom_15 : decode cX5_readAtom 15 = .ok (.if_icmp .ne 5, 3) := by decide +kernel
theorem dX5_readAtom_18 : decode cX5_readAtom 18 = .ok (.iconst 0, 1) := by decide +kernel
theorem dX5_readAtom_19 : decode cX5_readAtom 19 = .ok (.ireturn, 1) := by decide +kernel
theorem dX5_readAtom_20 : decode cX5_readAtom 20 = .ok (.aload_n 0, 1) := by decide +kernel
theorem dX5_readAtom_21 : decode cX5_readAtom 21 = .ok (.dup, 1) := by decide +kernel
theorem dX5_readAtom_22 : decode cX5_readAtom 22 = .ok (.getfield 258, 3) := by decide +kernel
theorem dX5_readAtom_25 : decode cX5_readAtom 25 = .ok (.iconst 1, 1) := by decide +kernel
theorem dX5_readAtom_26 : decode cX5_readAtom 26 = .ok (.iadd, 1) := by decide +kernel
theorem dX5_readAtom_27 : decode cX5_readAtom 27 = .ok (.putfield 258, 3) := by decide +kernel
theorem dX5_readAtom_30 : decode cX5_readAtom 30 = .ok (.aload_n 0, 1) := by decide +kernel
theorem dX5_readAtom_31 : decode cX5_readAtom 31 = .ok (.invokevirtual 261, 3) := by decide +kernel
theorem dX5_readAtom_34 : decode cX5_readAtom 34 = .ok (.ifCond .ne 5, 3) := by decide +kernel
theorem dX5_readAtom_37 : decode cX5_readAtom 37 = .ok (.iconst 0, 1) := by decide +kernel
theorem dX5_readAtom_38 : decode cX5_readAtom 38 = .ok (.ireturn, 1) := by decide +kernel
theorem dX5_readAtom_39 : decode cX5_readAtom 39 = .ok (.aload_n 0, 1) := by decide +kernel
theorem dX5_readAtom_40 : decode cX5_readAtom 40 = .ok (.dup, 1) := by decide +kernel
theorem dX5_readAtom_41 : decode cX5_readAtom 41 = .ok (.getfield 258, 3) := by decide +kernel
theorem dX5_readAtom_44 : decode cX5_readAtom 44 = .ok (.iconst 1, 1) := by decide +kernel
theorem dX5_readAtom_45 : decode cX5_readAtom 45 = .ok (.isub, 1) := by decide +kernel
theorem dX5_readAtom_46 : decode cX5_readAtom 46 = .ok (.putfield 258, 3) := by decide +kernel
theorem dX5_readAtom_49 : decode cX5_readAtom 49 = .ok (.aload_n 0, 1) := by decide +kernel
theorem dX5_readAtom_50 : decode cX5_readAtom 50 = .ok (.bipush 41, 2) := by decide +kernel
theorem dX5_readAtom_52 : decode cX5_readAtom 52 = .ok (.invokevirtual 254, 3) := by decide +kernel
theorem dX5_readAtom_55 : decode cX5_readAtom 55 = .ok (.ireturn, 1) := by decide +kernel
theorem dX5_readAtom_56 : decode cX5_readAtom 56 = .ok (.aload_n 0, 1) := by decide +kernel
theorem dX5_readAtom_57 : decode cX5_readAtom 57 = .ok (.ldc_w 265, 3) := by decide +kernel
theorem dX5_readAtom_60 : decode cX5_readAtom 60 = .ok (.invokevirtual 267, 3) := by decide +kernel
theorem dX5_readAtom_63 : decode cX5_readAtom 63 = .ok (.ifCond .eq 53, 3) := by decide +kernel
theorem dX5_readAtom_66 : decode cX5_readAtom 66 = .ok (.aload_n 0, 1) := by decide +kernel
theorem dX5_readAtom_67 : decode cX5_readAtom 67 = .ok (.getfield 258, 3) := by decide +kernel
theorem dX5_readAtom_70 : decode cX5_readAtom 70 = .ok (.bipush 8, 2) := by decide +kernel
theorem dX5_readAtom_72 : decode cX5_readAtom 72 = .ok (.if_icmp .ne 5, 3) := by decide +kernel
theorem dX5_readAtom_75 : decode cX5_readAtom 75 = .ok (.iconst 0, 1) := by decide +kernel
theorem dX5_readAtom_76 : decode cX5_readAtom 76 = .ok (.ireturn, 1) := by decide +kernel
theorem dX5_readAtom_77 : decode cX5_readAtom 77 = .ok (.aload_n 0, 1) := by decide +kernel
theorem dX5_readAtom_78 : decode cX5_readAtom 78 = .ok (.dup, 1) := by decide +kernel
theorem dX5_readAtom_79 : decode cX5_readAtom 79 = .ok (.getfield 258, 3) := by decide +kernel
theorem dX5_readAtom_82 : decode cX5_readAtom 82 = .ok (.iconst 1, 1) := by decide +kernel
theorem dX5_readAtom_83 : decode cX5_readAtom 83 = .ok (.iadd, 1) := by decide +kernel
theorem dX5_readAtom_84 : decode cX5_readAtom 84 = .ok (.putfield 258, 3) := by decide +kernel
theorem dX5_readAtom_87 : decode cX5_readAtom 87 = .ok (.aload_n 0, 1) := by decide +kernel
theorem dX5_readAtom_88 : decode cX5_readAtom 88 = .ok (.invokevirtual 270, 3) := by decide +kernel
theorem dX5_readAtom_91 : decode cX5_readAtom 91 = .ok (.ifCond .ne 5, 3) := by decide +kernel
theorem dX5_readAtom_94 : decode cX5_readAtom 94 = .ok (.iconst 0, 1) := by decide +kernel
theorem dX5_readAtom_95 : decode cX5_readAtom 95 = .ok (.ireturn, 1) := by decide +kernel
theorem dX5_readAtom_96 : decode cX5_readAtom 96 = .ok (.aload_n 0, 1) := by decide +kernel
theorem dX5_readAtom_97 : decode cX5_readAtom 97 = .ok (.dup, 1) := by decide +kernel
theorem dX5_readAtom_98 : decode cX5_readAtom 98 = .ok (.getfield 258, 3) := by decide +kernel
theorem dX5_readAtom_101 : decode cX5_readAtom 101 = .ok (.iconst 1, 1) := by decide +kernel
theorem dX5_readAtom_102 : decode cX5_readAtom 102 = .ok (.isub, 1) := by decide +kernel
theorem dX5_readAtom_103 : decode cX5_readAtom 103 = .ok (.putfield 258, 3) := by decide +kernel
theorem dX5_readAtom_106 : decode cX5_readAtom 106 = .ok (.aload_n 0, 1) := by decide +kernel
theorem dX5_readAtom_107 : decode cX5_readAtom 107 = .ok (.bipush 100, 2) := by decide +kernel
theorem dX5_readAtom_109 : decode cX5_readAtom 109 = .ok (.iconst 0, 1) := by decide +kernel
theorem dX5_readAtom_110 : decode cX5_readAtom 110 = .ok (.iconst 0, 1) := by decide +kernel
theorem dX5_readAtom_111 : decode cX5_readAtom 111 = .ok (.invokevirtual 273, 3) := by decide +kernel
theorem dX5_readAtom_114 : decode cX5_readAtom 114 = .ok (.iconst 1, 1) := by decide +kernel
theorem dX5_readAtom_115 : decode cX5_readAtom 115 = .ok (.ireturn, 1) := by decide +kernel
theorem dX5_readAtom_116 : decode cX5_readAtom 116 = .ok (.aload_n 0, 1) := by decide +kernel
theorem dX5_readAtom_117 : decode cX5_readAtom 117 = .ok (.invokevirtual 210, 3) := by decide +kernel
theorem dX5_readAtom_120 : decode cX5_readAtom 120 = .ok (.iconst 0, 1) := by decide +kernel
theorem dX5_readAtom_121 : decode cX5_readAtom 121 = .ok (.istore_n 1, 1) := by decide +kernel
theorem dX5_readAtom_122 : decode cX5_readAtom 122 = .ok (.iload_n 1, 1) := by decide +kernel
theorem dX5_readAtom_123 : decode cX5_readAtom 123 = .ok (.bipush 9, 2) := by decide +kernel
theorem dX5_readAtom_125 : decode cX5_readAtom 125 = .ok (.if_icmp .ge 20, 3) := by decide +kernel
theorem dX5_readAtom_128 : decode cX5_readAtom 128 = .ok (.aload_n 0, 1) := by decide +kernel
theorem dX5_readAtom_129 : decode cX5_readAtom 129 = .ok (.iload_n 1, 1) := by decide +kernel
theorem dX5_readAtom_130 : decode cX5_readAtom 130 = .ok (.invokestatic 277, 3) := by decide +kernel
theorem dX5_readAtom_133 : decode cX5_readAtom 133 = .ok (.invokevirtual 213, 3) := by decide +kernel
theorem dX5_readAtom_136 : decode cX5_readAtom 136 = .ok (.ifCond .ne 9, 3) := by decide +kernel
theorem dX5_readAtom_139 : decode cX5_readAtom 139 = .ok (.iinc 1 1, 3) := by decide +kernel
theorem dX5_readAtom_142 : decode cX5_readAtom 142 = .ok (.goto (-20), 3) := by decide +kernel
theorem dX5_readAtom_145 : decode cX5_readAtom 145 = .ok (.iload_n 1, 1) := by decide +kernel
theorem dX5_readAtom_146 : decode cX5_readAtom 146 = .ok (.bipush 9, 2) := by decide +kernel
theorem dX5_readAtom_148 : decode cX5_readAtom 148 = .ok (.if_icmp .ne 5, 3) := by decide +kernel
theorem dX5_readAtom_151 : decode cX5_readAtom 151 = .ok (.iconst 0, 1) := by decide +kernel
theorem dX5_readAtom_152 : decode cX5_readAtom 152 = .ok (.ireturn, 1) := by decide +kernel
theorem dX5_readAtom_153 : decode cX5_readAtom 153 = .ok (.aload_n 0, 1) := by decide +kernel
theorem dX5_readAtom_154 : decode cX5_readAtom 154 = .ok (.invokevirtual 197, 3) := by decide +kernel
theorem dX5_readAtom_157 : decode cX5_readAtom 157 = .ok (.aload_n 0, 1) := by decide +kernel
theorem dX5_readAtom_158 : decode cX5_readAtom 158 = .ok (.bipush 60, 2) := by decide +kernel
theorem dX5_readAtom_160 : decode cX5_readAtom 160 = .ok (.bipush 60, 2) := by decide +kernel
theorem dX5_readAtom_162 : decode cX5_readAtom 162 = .ok (.invokevirtual 190, 3) := by decide +kernel
theorem dX5_readAtom_165 : decode cX5_readAtom 165 = .ok (.ifCond .eq 7, 3) := by decide +kernel
theorem dX5_readAtom_168 : decode cX5_readAtom 168 = .ok (.iconst 1, 1) := by decide +kernel
theorem dX5_readAtom_169 : decode cX5_readAtom 169 = .ok (.goto 19, 3) := by decide +kernel
theorem dX5_readAtom_172 : decode cX5_readAtom 172 = .ok (.aload_n 0, 1) := by decide +kernel
theorem dX5_readAtom_173 : decode cX5_readAtom 173 = .ok (.bipush 62, 2) := by decide +kernel
theorem dX5_readAtom_175 : decode cX5_readAtom 175 = .ok (.bipush 62, 2) := by decide +kernel
theorem dX5_readAtom_177 : decode cX5_readAtom 177 = .ok (.invokevirtual 190, 3) := by decide +kernel
theorem dX5_readAtom_180 : decode cX5_readAtom 180 = .ok (.ifCond .eq 7, 3) := by decide +kernel
theorem dX5_readAtom_183 : decode cX5_readAtom 183 = .ok (.iconst 2, 1) := by decide +kernel
theorem dX5_readAtom_184 : decode cX5_readAtom 184 = .ok (.goto 4, 3) := by decide +kernel
theorem dX5_readAtom_187 : decode cX5_readAtom 187 = .ok (.iconst 0, 1) := by decide +kernel
theorem dX5_readAtom_188 : decode cX5_readAtom 188 = .ok (.istore_n 2, 1) := by decide +kernel
theorem dX5_readAtom_189 : decode cX5_readAtom 189 = .ok (.iload_n 2, 1) := by decide +kernel
theorem dX5_readAtom_190 : decode cX5_readAtom 190 = .ok (.ifCond .le 13, 3) := by decide +kernel
theorem dX5_readAtom_193 : decode cX5_readAtom 193 = .ok (.aload_n 0, 1) := by decide +kernel
theorem dX5_readAtom_194 : decode cX5_readAtom 194 = .ok (.dup, 1) := by decide +kernel
theorem dX5_readAtom_195 : decode cX5_readAtom 195 = .ok (.getfield 187, 3) := by decide +kernel
theorem dX5_readAtom_198 : decode cX5_readAtom 198 = .ok (.iconst 1, 1) := by decide +kernel
theorem dX5_readAtom_199 : decode cX5_readAtom 199 = .ok (.iadd, 1) := by decide +kernel
theorem dX5_readAtom_200 : decode cX5_readAtom 200 = .ok (.putfield 187, 3) := by decide +kernel
theorem dX5_readAtom_203 : decode cX5_readAtom 203 = .ok (.iload_n 2, 1) := by decide +kernel
theorem dX5_readAtom_204 : decode cX5_readAtom 204 = .ok (.ifCond .le 10, 3) := by decide +kernel
theorem dX5_readAtom_207 : decode cX5_readAtom 207 = .ok (.aload_n 0, 1) := by decide +kernel
theorem dX5_readAtom_208 : decode cX5_readAtom 208 = .ok (.invokevirtual 281, 3) := by decide +kernel
theorem dX5_readAtom_211 : decode cX5_readAtom 211 = .ok (.goto 4, 3) := by decide +kernel
theorem dX5_readAtom_214 : decode cX5_readAtom 214 = .ok (.iconst 0, 1) := by decide +kernel
theorem dX5_readAtom_215 : decode cX5_readAtom 215 = .ok (.istore_n 3, 1) := by decide +kernel
theorem dX5_readAtom_216 : decode cX5_readAtom 216 = .ok (.iload_n 3, 1) := by decide +kernel
theorem dX5_readAtom_217 : decode cX5_readAtom 217 = .ok (.ifCond .ge 5, 3) := by decide +kernel
theorem dX5_readAtom_220 : decode cX5_readAtom 220 = .ok (.iconst 0, 1) := by decide +kernel
theorem dX5_readAtom_221 : decode cX5_readAtom 221 = .ok (.ireturn, 1) := by decide +kernel
theorem dX5_readAtom_222 : decode cX5_readAtom 222 = .ok (.aload_n 0, 1) := by decide +kernel
theorem dX5_readAtom_223 : decode cX5_readAtom 223 = .ok (.iload_n 1, 1) := by decide +kernel
theorem dX5_readAtom_224 : decode cX5_readAtom 224 = .ok (.iload_n 2, 1) := by decide +kernel
theorem dX5_readAtom_225 : decode cX5_readAtom 225 = .ok (.iload_n 3, 1) := by decide +kernel
theorem dX5_readAtom_226 : decode cX5_readAtom 226 = .ok (.invokevirtual 273, 3) := by decide +kernel
theorem dX5_readAtom_229 : decode cX5_readAtom 229 = .ok (.iconst 1, 1) := by decide +kernel
theorem dX5_readAtom_230 : decode cX5_readAtom 230 = .ok (.ireturn, 1) := by decide +kernel
theorem dX5_passesSign_0 : decode cX5_passesSign 0 = .ok (.aload_n 0, 1) := by decide +kernel
theorem dX5_passesSign_1 : decode cX5_passesSign 1 = .ok (.invokevirtual 197, 3) := by decide +kernel
theorem dX5_passesSign_4 : decode cX5_passesSign 4 = .ok (.aload_n 0, 1) := by decide +kernel
theorem dX5_passesSign_5 : decode cX5_passesSign 5 = .ok (.iload_n 1, 1) := by decide +kernel
theorem dX5_passesSign_6 : decode cX5_passesSign 6 = .ok (.iload_n 1, 1) := by decide +kernel
theorem dX5_passesSign_7 : decode cX5_passesSign 7 = .ok (.invokevirtual 190, 3) := by decide +kernel
theorem dX5_passesSign_10 : decode cX5_passesSign 10 = .ok (.ifCond .ne 5, 3) := by decide +kernel
theorem dX5_passesSign_13 : decode cX5_passesSign 13 = .ok (.iconst 0, 1) := by decide +kernel
theorem dX5_passesSign_14 : decode cX5_passesSign 14 = .ok (.ireturn, 1) := by decide +kernel
theorem dX5_passesSign_15 : decode cX5_passesSign 15 = .ok (.aload_n 0, 1) := by decide +kernel
theorem dX5_passesSign_16 : decode cX5_passesSign 16 = .ok (.dup, 1) := by decide +kernel
theorem dX5_passesSign_17 : decode cX5_passesSign 17 = .ok (.getfield 187, 3) := by decide +kernel
theorem dX5_passesSign_20 : decode cX5_passesSign 20 = .ok (.iconst 1, 1) := by decide +kernel
theorem dX5_passesSign_21 : decode cX5_passesSign 21 = .ok (.iadd, 1) := by decide +kernel
theorem dX5_passesSign_22 : decode cX5_passesSign 22 = .ok (.putfield 187, 3) := by decide +kernel
theorem dX5_passesSign_25 : decode cX5_passesSign 25 = .ok (.iconst 1, 1) := by decide +kernel
theorem dX5_passesSign_26 : decode cX5_passesSign 26 = .ok (.ireturn, 1) := by decide +kernel
theorem dX5_adds_0 : decode cX5_adds 0 = .ok (.sipush 4800, 3) := by decide +kernel
theorem dX5_adds_3 : decode cX5_adds 3 = .ok (.aload_n 0, 1) := by decide +kernel
theorem dX5_adds_4 : decode cX5_adds 4 = .ok (.getfield 217, 3) := by decide +kernel
theorem dX5_adds_7 : decode cX5_adds 7 = .ok (.iadd, 1) := by decide +kernel
theorem dX5_adds_8 : decode cX5_adds 8 = .ok (.istore 4, 2) := by decide +kernel
theorem dX5_adds_10 : decode cX5_adds 10 = .ok (.aload_n 0, 1) := by decide +kernel
theorem dX5_adds_11 : decode cX5_adds 11 = .ok (.getfield 39, 3) := by decide +kernel
theorem dX5_adds_14 : decode cX5_adds 14 = .ok (.iload 4, 2) := by decide +kernel
theorem dX5_adds_16 : decode cX5_adds 16 = .ok (.iload_n 1, 1) := by decide +kernel
theorem dX5_adds_17 : decode cX5_adds 17 = .ok (.iastore, 1) := by decide +kernel
theorem dX5_adds_18 : decode cX5_adds 18 = .ok (.aload_n 0, 1) := by decide +kernel
theorem dX5_adds_19 : decode cX5_adds 19 = .ok (.getfield 42, 3) := by decide +kernel
theorem dX5_adds_22 : decode cX5_adds 22 = .ok (.iload 4, 2) := by decide +kernel
theorem dX5_adds_24 : decode cX5_adds 24 = .ok (.iload_n 2, 1) := by decide +kernel
theorem dX5_adds_25 : decode cX5_adds 25 = .ok (.iastore, 1) := by decide +kernel
theorem dX5_adds_26 : decode cX5_adds 26 = .ok (.aload_n 0, 1) := by decide +kernel
theorem dX5_adds_27 : decode cX5_adds 27 = .ok (.getfield 45, 3) := by decide +kernel
theorem dX5_adds_30 : decode cX5_adds 30 = .ok (.iload 4, 2) := by decide +kernel
theorem dX5_adds_32 : decode cX5_adds 32 = .ok (.iload_n 3, 1) := by decide +kernel
theorem dX5_adds_33 : decode cX5_adds 33 = .ok (.iastore, 1) := by decide +kernel
theorem dX5_adds_34 : decode cX5_adds 34 = .ok (.aload_n 0, 1) := by decide +kernel
theorem dX5_adds_35 : decode cX5_adds 35 = .ok (.dup, 1) := by decide +kernel
theorem dX5_adds_36 : decode cX5_adds 36 = .ok (.getfield 217, 3) := by decide +kernel
theorem dX5_adds_39 : decode cX5_adds 39 = .ok (.iconst 1, 1) := by decide +kernel
theorem dX5_adds_40 : decode cX5_adds 40 = .ok (.iadd, 1) := by decide +kernel
theorem dX5_adds_41 : decode cX5_adds 41 = .ok (.putfield 217, 3) := by decide +kernel
theorem dX5_adds_44 : decode cX5_adds 44 = .ok (.return_, 1) := by decide +kernel
theorem dX5_fact_0 : decode cX5_fact 0 = .ok (.iload_n 0, 1) := by decide +kernel
theorem dX5_fact_1 : decode cX5_fact 1 = .ok (.tableswitch 71 0 7 #[47, 50, 53, 56, 59, 62, 65, 68], 47) := by decide +kernel
theorem dX5_fact_48 : decode cX5_fact 48 = .ok (.ldc 220, 2) := by decide +kernel
theorem dX5_fact_50 : decode cX5_fact 50 = .ok (.areturn, 1) := by decide +kernel
theorem dX5_fact_51 : decode cX5_fact 51 = .ok (.ldc 222, 2) := by decide +kernel
theorem dX5_fact_53 : decode cX5_fact 53 = .ok (.areturn, 1) := by decide +kernel
theorem dX5_fact_54 : decode cX5_fact 54 = .ok (.ldc 224, 2) := by decide +kernel
theorem dX5_fact_56 : decode cX5_fact 56 = .ok (.areturn, 1) := by decide +kernel
theorem dX5_fact_57 : decode cX5_fact 57 = .ok (.ldc 226, 2) := by decide +kernel
theorem dX5_fact_59 : decode cX5_fact 59 = .ok (.areturn, 1) := by decide +kernel
theorem dX5_fact_60 : decode cX5_fact 60 = .ok (.ldc 228, 2) := by decide +kernel
theorem dX5_fact_62 : decode cX5_fact 62 = .ok (.areturn, 1) := by decide +kernel
theorem dX5_fact_63 : decode cX5_fact 63 = .ok (.ldc 230, 2) := by decide +kernel
theorem dX5_fact_65 : decode cX5_fact 65 = .ok (.areturn, 1) := by decide +kernel
theorem dX5_fact_66 : decode cX5_fact 66 = .ok (.ldc 232, 2) := by decide +kernel
theorem dX5_fact_68 : decode cX5_fact 68 = .ok (.areturn, 1) := by decide +kernel
theorem dX5_fact_69 : decode cX5_fact 69 = .ok (.ldc 234, 2) := by decide +kernel
theorem dX5_fact_71 : decode cX5_fact 71 = .ok (.areturn, 1) := by decide +kernel
theorem dX5_fact_72 : decode cX5_fact 72 = .ok (.ldc 236, 2) := by decide +kernel
theorem dX5_fact_74 : decode cX5_fact 74 = .ok (.areturn, 1) := by decide +kernel
theorem dX5_person_0 : decode cX5_person 0 = .ok (.aload_n 0, 1) := by decide +kernel
theorem dX5_person_1 : decode cX5_person 1 = .ok (.iconst 0, 1) := by decide +kernel
theorem dX5_person_2 : decode cX5_person 2 = .ok (.putfield 178, 3) := by decide +kernel
theorem dX5_person_5 : decode cX5_person 5 = .ok (.aload_n 0, 1) := by decide +kernel
theorem dX5_person_6 : decode cX5_person 6 = .ok (.iload_n 1, 1) := by decide +kernel
theorem dX5_person_7 : decode cX5_person 7 = .ok (.ldc_w 375, 3) := by decide +kernel
theorem dX5_person_10 : decode cX5_person 10 = .ok (.aload_n 0, 1) := by decide +kernel
theorem dX5_person_11 : decode cX5_person 11 = .ok (.getfield 314, 3) := by decide +kernel
theorem dX5_person_14 : decode cX5_person 14 = .ok (.invokestatic 317, 3) := by decide +kernel
theorem dX5_person_17 : decode cX5_person 17 = .ok (.ifCond .eq 42, 3) := by decide +kernel
theorem dX5_person_20 : decode cX5_person 20 = .ok (.iload_n 3, 1) := by decide +kernel
theorem dX5_person_21 : decode cX5_person 21 = .ok (.invokestatic 376, 3) := by decide +kernel
theorem dX5_person_24 : decode cX5_person 24 = .ok (.ifCond .ne 35, 3) := by decide +kernel
theorem dX5_person_27 : decode cX5_person 27 = .ok (.iload 4, 2) := by decide +kernel
theorem dX5_person_29 : decode cX5_person 29 = .ok (.invokestatic 376, 3) := by decide +kernel
theorem dX5_person_32 : decode cX5_person 32 = .ok (.ifCond .ne 27, 3) := by decide +kernel
theorem dX5_person_35 : decode cX5_person 35 = .ok (.iload 5, 2) := by decide +kernel
theorem dX5_person_37 : decode cX5_person 37 = .ok (.invokestatic 376, 3) := by decide +kernel
theorem dX5_person_40 : decode cX5_person 40 = .ok (.ifCond .ne 19, 3) := by decide +kernel
theorem dX5_person_43 : decode cX5_person 43 = .ok (.iload 6, 2) := by decide +kernel
theorem dX5_person_45 : decode cX5_person 45 = .ok (.invokestatic 376, 3) := by decide +kernel
theorem dX5_person_48 : decode cX5_person 48 = .ok (.ifCond .ne 11, 3) := by decide +kernel
theorem dX5_person_51 : decode cX5_person 51 = .ok (.iload 7, 2) := by decide +kernel
theorem dX5_person_53 : decode cX5_person 53 = .ok (.invokestatic 376, 3) := by decide +kernel
theorem dX5_person_56 : decode cX5_person 56 = .ok (.ifCond .eq 7, 3) := by decide +kernel
theorem dX5_person_59 : decode cX5_person 59 = .ok (.iconst 1, 1) := by decide +kernel
theorem dX5_person_60 : decode cX5_person 60 = .ok (.goto 4, 3) := by decide +kernel
theorem dX5_person_63 : decode cX5_person 63 = .ok (.iconst 0, 1) := by decide +kernel
theorem dX5_person_64 : decode cX5_person 64 = .ok (.iconst 1, 1) := by decide +kernel
theorem dX5_person_65 : decode cX5_person 65 = .ok (.invokevirtual 321, 3) := by decide +kernel
theorem dX5_person_68 : decode cX5_person 68 = .ok (.ifCond .ne 25, 3) := by decide +kernel
theorem dX5_person_71 : decode cX5_person 71 = .ok (.aload_n 0, 1) := by decide +kernel
theorem dX5_person_72 : decode cX5_person 72 = .ok (.aload_n 0, 1) := by decide +kernel
theorem dX5_person_73 : decode cX5_person 73 = .ok (.getfield 372, 3) := by decide +kernel
theorem dX5_person_76 : decode cX5_person 76 = .ok (.bipush 80, 2) := by decide +kernel
theorem dX5_person_78 : decode cX5_person 78 = .ok (.if_icmp .ne 7, 3) := by decide +kernel
theorem dX5_person_81 : decode cX5_person 81 = .ok (.iconst 1, 1) := by decide +kernel
theorem dX5_person_82 : decode cX5_person 82 = .ok (.goto 4, 3) := by decide +kernel
theorem dX5_person_85 : decode cX5_person 85 = .ok (.iconst 0, 1) := by decide +kernel
theorem dX5_person_86 : decode cX5_person 86 = .ok (.iconst 2, 1) := by decide +kernel
theorem dX5_person_87 : decode cX5_person 87 = .ok (.invokevirtual 321, 3) := by decide +kernel
theorem dX5_person_90 : decode cX5_person 90 = .ok (.ifCond .eq 5, 3) := by decide +kernel
theorem dX5_person_93 : decode cX5_person 93 = .ok (.iconst 0, 1) := by decide +kernel
theorem dX5_person_94 : decode cX5_person 94 = .ok (.ireturn, 1) := by decide +kernel
theorem dX5_person_95 : decode cX5_person 95 = .ok (.aload_n 0, 1) := by decide +kernel
theorem dX5_person_96 : decode cX5_person 96 = .ok (.getfield 55, 3) := by decide +kernel
theorem dX5_person_99 : decode cX5_person 99 = .ok (.aload_n 0, 1) := by decide +kernel
theorem dX5_person_100 : decode cX5_person 100 = .ok (.getfield 372, 3) := by decide +kernel
theorem dX5_person_103 : decode cX5_person 103 = .ok (.iload_n 1, 1) := by decide +kernel
theorem dX5_person_104 : decode cX5_person 104 = .ok (.iastore, 1) := by decide +kernel
theorem dX5_person_105 : decode cX5_person 105 = .ok (.aload_n 0, 1) := by decide +kernel
