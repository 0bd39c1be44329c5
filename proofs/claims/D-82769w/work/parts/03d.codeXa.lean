/-! method names and decode rows: X1 -/
set_option maxRecDepth 100000
abbrev cX1_init : ByteArray := prog_1_method_1_code
def yX1_init : MethodName := ⟨RX1, "<init>", "()V"⟩
abbrev cX1_feed : ByteArray := prog_1_method_11_code
def yX1_feed : MethodName := ⟨RX1, "feed", "(IIIII)I"⟩
abbrev cX1_four : ByteArray := prog_1_method_10_code
def yX1_four : MethodName := ⟨RX1, "four", "(I)V"⟩
abbrev cX1_end : ByteArray := prog_1_method_12_code
def yX1_end : MethodName := ⟨RX1, "end", "(I)Z"⟩
abbrev cX1_isIn : ByteArray := prog_1_method_6_code
def yX1_isIn : MethodName := ⟨RX1, "isIn", "(III)Z"⟩
abbrev cX1_fault : ByteArray := prog_1_method_15_code
def yX1_fault : MethodName := ⟨RX1, "fault", "()I"⟩
abbrev cX1_ends : ByteArray := prog_1_method_64_code
def yX1_ends : MethodName := ⟨RX1, "ends", "(II)I"⟩
abbrev cX1_count : ByteArray := prog_1_method_66_code
def yX1_count : MethodName := ⟨RX1, "count", "(I)I"⟩
abbrev cX1_lawOf : ByteArray := prog_1_method_16_code
def yX1_lawOf : MethodName := ⟨RX1, "lawOf", "(I)LPassportOffice$Law;"⟩
abbrev cX1_inState : ByteArray := prog_1_method_65_code
def yX1_inState : MethodName := ⟨RX1, "inState", "(II)I"⟩
abbrev cX1_law : ByteArray := prog_1_method_14_code
def yX1_law : MethodName := ⟨RX1, "law", "(I)I"⟩
abbrev cX1_use : ByteArray := prog_1_method_13_code
def yX1_use : MethodName := ⟨RX1, "use", "()I"⟩
abbrev cX1_must : ByteArray := prog_1_method_2_code
def yX1_must : MethodName := ⟨RX1, "must", "(Z)V"⟩
abbrev cX1_mayBe : ByteArray := prog_1_method_3_code
def yX1_mayBe : MethodName := ⟨RX1, "mayBe", "(Z)V"⟩
abbrev cX1_person : ByteArray := prog_1_method_19_code
def yX1_person : MethodName := ⟨RX1, "person", "(IZIIIII)I"⟩
abbrev cX1_name : ByteArray := prog_1_method_20_code
def yX1_name : MethodName := ⟨RX1, "name", "(I)I"⟩
abbrev cX1_personAt : ByteArray := prog_1_method_7_code
def yX1_personAt : MethodName := ⟨RX1, "personAt", "(I)LPassportOffice$Person;"⟩
abbrev cX1_mustBe : ByteArray := prog_1_method_4_code
def yX1_mustBe : MethodName := ⟨RX1, "mustBe", "(Z)V"⟩
abbrev cX1_sign : ByteArray := prog_1_method_21_code
def yX1_sign : MethodName := ⟨RX1, "sign", "(II)I"⟩
abbrev cX1_figure : ByteArray := prog_1_method_22_code
def yX1_figure : MethodName := ⟨RX1, "figure", "(I)I"⟩
abbrev cX1_far : ByteArray := prog_1_method_23_code
def yX1_far : MethodName := ⟨RX1, "far", "(II)I"⟩
abbrev cX1_tell : ByteArray := prog_1_method_26_code
def yX1_tell : MethodName := ⟨RX1, "tell", "(IIZ)I"⟩
abbrev cX1_behindCheck : ByteArray := prog_1_method_25_code
def yX1_behindCheck : MethodName := ⟨RX1, "behindCheck", "(LPassportOffice$Asking;)I"⟩
abbrev cX1_face : ByteArray := prog_1_method_24_code
def yX1_face : MethodName := ⟨RX1, "face", "(I)I"⟩
abbrev cX1_judge : ByteArray := prog_1_method_28_code
def yX1_judge : MethodName := ⟨RX1, "judge", "(IIIZI)I"⟩
abbrev cX1_isAsked : ByteArray := prog_1_method_27_code
def yX1_isAsked : MethodName := ⟨RX1, "isAsked", "(II)V"⟩
abbrev cX1_ruling : ByteArray := prog_1_method_18_code
def yX1_ruling : MethodName := ⟨RX1, "ruling", "(IIIZ)LPassportOffice$Ruling;"⟩
abbrev cX1_validOf : ByteArray := prog_1_method_17_code
def yX1_validOf : MethodName := ⟨RX1, "validOf", "(II)I"⟩
abbrev cX1_ask : ByteArray := prog_1_method_30_code
def yX1_ask : MethodName := ⟨RX1, "ask", "(IIIIZ)I"⟩
abbrev cX1_isItems : ByteArray := prog_1_method_29_code
def yX1_isItems : MethodName := ⟨RX1, "isItems", "(I)V"⟩
abbrev cX1_give : ByteArray := prog_1_method_32_code
def yX1_give : MethodName := ⟨RX1, "give", "(II)I"⟩
abbrev cX1_askingAt : ByteArray := prog_1_method_8_code
def yX1_askingAt : MethodName := ⟨RX1, "askingAt", "(I)LPassportOffice$Asking;"⟩
abbrev cX1_may : ByteArray := prog_1_method_5_code
def yX1_may : MethodName := ⟨RX1, "may", "(Z)V"⟩
abbrev cX1_lacks : ByteArray := prog_1_method_31_code
def yX1_lacks : MethodName := ⟨RX1, "lacks", "(LPassportOffice$Asking;LPassportOffice$Move;)I"⟩
abbrev cX1_hands : ByteArray := prog_1_method_37_code
def yX1_hands : MethodName := ⟨RX1, "hands", "(II)V"⟩
abbrev cX1_isDesk : ByteArray := prog_1_method_9_code
def yX1_isDesk : MethodName := ⟨RX1, "isDesk", "(I)V"⟩
abbrev cX1_lend : ByteArray := prog_1_method_38_code
def yX1_lend : MethodName := ⟨RX1, "lend", "(IIIII)I"⟩
abbrev cX1_units : ByteArray := prog_1_method_40_code
def yX1_units : MethodName := ⟨RX1, "units", "(II)I"⟩
abbrev cX1_unitsOf : ByteArray := prog_1_method_39_code
def yX1_unitsOf : MethodName := ⟨RX1, "unitsOf", "(II)I"⟩
abbrev cX1_rules : ByteArray := prog_1_method_41_code
def yX1_rules : MethodName := ⟨RX1, "rules", "(IIIII)V"⟩
abbrev cX1_order : ByteArray := prog_1_method_42_code
def yX1_order : MethodName := ⟨RX1, "order", "(I)V"⟩
abbrev cX1_blanks : ByteArray := prog_1_method_43_code
def yX1_blanks : MethodName := ⟨RX1, "blanks", "(I)I"⟩
abbrev cX1_broken : ByteArray := prog_1_method_44_code
def yX1_broken : MethodName := ⟨RX1, "broken", "(II)V"⟩
abbrev cX1_days : ByteArray := prog_1_method_58_code
def yX1_days : MethodName := ⟨RX1, "days", "(I)I"⟩
abbrev cX1_day : ByteArray := prog_1_method_53_code
def yX1_day : MethodName := ⟨RX1, "day", "(LPassportOffice$World;I)V"⟩
abbrev cX1_gets : ByteArray := prog_1_method_52_code
def yX1_gets : MethodName := ⟨RX1, "gets", "(LPassportOffice$World;I)V"⟩
abbrev cX1_callsOf : ByteArray := prog_1_method_51_code
def yX1_callsOf : MethodName := ⟨RX1, "callsOf", "(LPassportOffice$World;)I"⟩
abbrev cX1_work : ByteArray := prog_1_method_55_code
def yX1_work : MethodName := ⟨RX1, "work", "(LPassportOffice$World;III)I"⟩
abbrev cX1_line : ByteArray := prog_1_method_48_code
def yX1_line : MethodName := ⟨RX1, "line", "(LPassportOffice$World;II)I"⟩
abbrev cX1_deskOf : ByteArray := prog_1_method_45_code
def yX1_deskOf : MethodName := ⟨RX1, "deskOf", "(I)I"⟩
abbrev cX1_isAhead : ByteArray := prog_1_method_47_code
def yX1_isAhead : MethodName := ⟨RX1, "isAhead", "(LPassportOffice$World;III)Z"⟩
abbrev cX1_hasTicket : ByteArray := prog_1_method_46_code
def yX1_hasTicket : MethodName := ⟨RX1, "hasTicket", "(LPassportOffice$Move;)Z"⟩
abbrev cX1_costs : ByteArray := prog_1_method_54_code
def yX1_costs : MethodName := ⟨RX1, "costs", "(LPassportOffice$World;II)I"⟩
abbrev cX1_does : ByteArray := prog_1_method_56_code
def yX1_does : MethodName := ⟨RX1, "does", "(LPassportOffice$World;II)V"⟩
abbrev cX1_print : ByteArray := prog_1_method_57_code
def yX1_print : MethodName := ⟨RX1, "print", "(LPassportOffice$World;I)V"⟩
abbrev cX1_refuse : ByteArray := prog_1_method_33_code
def yX1_refuse : MethodName := ⟨RX1, "refuse", "(I)V"⟩
abbrev cX1_lose : ByteArray := prog_1_method_34_code
def yX1_lose : MethodName := ⟨RX1, "lose", "(I)V"⟩
abbrev cX1_again : ByteArray := prog_1_method_35_code
def yX1_again : MethodName := ⟨RX1, "again", "(I)V"⟩
abbrev cX1_led : ByteArray := prog_1_method_36_code
def yX1_led : MethodName := ⟨RX1, "led", "(II)I"⟩
abbrev cX1_queue : ByteArray := prog_1_method_49_code
def yX1_queue : MethodName := ⟨RX1, "queue", "(I)I"⟩
abbrev cX1_ahead : ByteArray := prog_1_method_50_code
def yX1_ahead : MethodName := ⟨RX1, "ahead", "(I)I"⟩
abbrev cX1_booklet : ByteArray := prog_1_method_59_code
def yX1_booklet : MethodName := ⟨RX1, "booklet", "(II)I"⟩
abbrev cX1_valid : ByteArray := prog_1_method_60_code
def yX1_valid : MethodName := ⟨RX1, "valid", "(II)I"⟩
abbrev cX1_missed : ByteArray := prog_1_method_61_code
def yX1_missed : MethodName := ⟨RX1, "missed", "(II)I"⟩
abbrev cX1_waits : ByteArray := prog_1_method_63_code
def yX1_waits : MethodName := ⟨RX1, "waits", "(IZ)I"⟩
abbrev cX1_isGotAhead : ByteArray := prog_1_method_62_code
def yX1_isGotAhead : MethodName := ⟨RX1, "isGotAhead", "(II)Z"⟩
theorem dX1_init_0 : decode cX1_init 0 = .ok (.aload_n 0, 1) := by decide +kernel
theorem dX1_init_1 : decode cX1_init 1 = .ok (.invokespecial 1, 3) := by decide +kernel
theorem dX1_init_4 : decode cX1_init 4 = .ok (.aload_n 0, 1) := by decide +kernel
theorem dX1_init_5 : decode cX1_init 5 = .ok (.new 7, 3) := by decide +kernel
theorem dX1_init_8 : decode cX1_init 8 = .ok (.dup, 1) := by decide +kernel
theorem dX1_init_9 : decode cX1_init 9 = .ok (.invokespecial 9, 3) := by decide +kernel
theorem dX1_init_12 : decode cX1_init 12 = .ok (.putfield 10, 3) := by decide +kernel
theorem dX1_init_15 : decode cX1_init 15 = .ok (.aload_n 0, 1) := by decide +kernel
theorem dX1_init_16 : decode cX1_init 16 = .ok (.bipush 12, 2) := by decide +kernel
theorem dX1_init_18 : decode cX1_init 18 = .ok (.anewarray 16, 3) := by decide +kernel
theorem dX1_init_21 : decode cX1_init 21 = .ok (.putfield 18, 3) := by decide +kernel
theorem dX1_init_24 : decode cX1_init 24 = .ok (.aload_n 0, 1) := by decide +kernel
theorem dX1_init_25 : decode cX1_init 25 = .ok (.bipush 80, 2) := by decide +kernel
theorem dX1_init_27 : decode cX1_init 27 = .ok (.anewarray 22, 3) := by decide +kernel
theorem dX1_init_30 : decode cX1_init 30 = .ok (.putfield 24, 3) := by decide +kernel
theorem dX1_init_33 : decode cX1_init 33 = .ok (.aload_n 0, 1) := by decide +kernel
theorem dX1_init_34 : decode cX1_init 34 = .ok (.bipush 80, 2) := by decide +kernel
theorem dX1_init_36 : decode cX1_init 36 = .ok (.bipush 80, 2) := by decide +kernel
theorem dX1_init_38 : decode cX1_init 38 = .ok (.multianewarray 28 2, 4) := by decide +kernel
theorem dX1_init_42 : decode cX1_init 42 = .ok (.putfield 30, 3) := by decide +kernel
theorem dX1_init_45 : decode cX1_init 45 = .ok (.aload_n 0, 1) := by decide +kernel
theorem dX1_init_46 : decode cX1_init 46 = .ok (.bipush 120, 2) := by decide +kernel
theorem dX1_init_48 : decode cX1_init 48 = .ok (.anewarray 33, 3) := by decide +kernel
theorem dX1_init_51 : decode cX1_init 51 = .ok (.putfield 35, 3) := by decide +kernel
theorem dX1_init_54 : decode cX1_init 54 = .ok (.aload_n 0, 1) := by decide +kernel
theorem dX1_init_55 : decode cX1_init 55 = .ok (.new 39, 3) := by decide +kernel
theorem dX1_init_58 : decode cX1_init 58 = .ok (.dup, 1) := by decide +kernel
theorem dX1_init_59 : decode cX1_init 59 = .ok (.invokespecial 41, 3) := by decide +kernel
theorem dX1_init_62 : decode cX1_init 62 = .ok (.putfield 42, 3) := by decide +kernel
theorem dX1_init_65 : decode cX1_init 65 = .ok (.aload_n 0, 1) := by decide +kernel
theorem dX1_init_66 : decode cX1_init 66 = .ok (.new 39, 3) := by decide +kernel
theorem dX1_init_69 : decode cX1_init 69 = .ok (.dup, 1) := by decide +kernel
theorem dX1_init_70 : decode cX1_init 70 = .ok (.invokespecial 41, 3) := by decide +kernel
theorem dX1_init_73 : decode cX1_init 73 = .ok (.putfield 46, 3) := by decide +kernel
theorem dX1_init_76 : decode cX1_init 76 = .ok (.aload_n 0, 1) := by decide +kernel
theorem dX1_init_77 : decode cX1_init 77 = .ok (.sipush 150, 3) := by decide +kernel
theorem dX1_init_80 : decode cX1_init 80 = .ok (.anewarray 49, 3) := by decide +kernel
theorem dX1_init_83 : decode cX1_init 83 = .ok (.putfield 51, 3) := by decide +kernel
theorem dX1_init_86 : decode cX1_init 86 = .ok (.aload_n 0, 1) := by decide +kernel
theorem dX1_init_87 : decode cX1_init 87 = .ok (.bipush 20, 2) := by decide +kernel
theorem dX1_init_89 : decode cX1_init 89 = .ok (.anewarray 55, 3) := by decide +kernel
theorem dX1_init_92 : decode cX1_init 92 = .ok (.putfield 57, 3) := by decide +kernel
theorem dX1_init_95 : decode cX1_init 95 = .ok (.aload_n 0, 1) := by decide +kernel
theorem dX1_init_96 : decode cX1_init 96 = .ok (.iconst 4, 1) := by decide +kernel
theorem dX1_init_97 : decode cX1_init 97 = .ok (.newarray .int, 2) := by decide +kernel
theorem dX1_init_99 : decode cX1_init 99 = .ok (.putfield 61, 3) := by decide +kernel
theorem dX1_init_102 : decode cX1_init 102 = .ok (.aload_n 0, 1) := by decide +kernel
theorem dX1_init_103 : decode cX1_init 103 = .ok (.bipush 120, 2) := by decide +kernel
theorem dX1_init_105 : decode cX1_init 105 = .ok (.newarray .int, 2) := by decide +kernel
theorem dX1_init_107 : decode cX1_init 107 = .ok (.putfield 65, 3) := by decide +kernel
theorem dX1_init_110 : decode cX1_init 110 = .ok (.aload_n 0, 1) := by decide +kernel
theorem dX1_init_111 : decode cX1_init 111 = .ok (.bipush 9, 2) := by decide +kernel
theorem dX1_init_113 : decode cX1_init 113 = .ok (.newarray .int, 2) := by decide +kernel
theorem dX1_init_115 : decode cX1_init 115 = .ok (.putfield 68, 3) := by decide +kernel
theorem dX1_init_118 : decode cX1_init 118 = .ok (.aload_n 0, 1) := by decide +kernel
theorem dX1_init_119 : decode cX1_init 119 = .ok (.bipush 20, 2) := by decide +kernel
theorem dX1_init_121 : decode cX1_init 121 = .ok (.newarray .int, 2) := by decide +kernel
theorem dX1_init_123 : decode cX1_init 123 = .ok (.putfield 71, 3) := by decide +kernel
theorem dX1_init_126 : decode cX1_init 126 = .ok (.aload_n 0, 1) := by decide +kernel
theorem dX1_init_127 : decode cX1_init 127 = .ok (.bipush 20, 2) := by decide +kernel
theorem dX1_init_129 : decode cX1_init 129 = .ok (.putfield 74, 3) := by decide +kernel
theorem dX1_init_132 : decode cX1_init 132 = .ok (.aload_n 0, 1) := by decide +kernel
theorem dX1_init_133 : decode cX1_init 133 = .ok (.bipush 30, 2) := by decide +kernel
theorem dX1_init_135 : decode cX1_init 135 = .ok (.putfield 78, 3) := by decide +kernel
theorem dX1_init_138 : decode cX1_init 138 = .ok (.aload_n 0, 1) := by decide +kernel
theorem dX1_init_139 : decode cX1_init 139 = .ok (.bipush 10, 2) := by decide +kernel
theorem dX1_init_141 : decode cX1_init 141 = .ok (.putfield 81, 3) := by decide +kernel
theorem dX1_init_144 : decode cX1_init 144 = .ok (.aload_n 0, 1) := by decide +kernel
theorem dX1_init_145 : decode cX1_init 145 = .ok (.iconst 2, 1) := by decide +kernel
theorem dX1_init_146 : decode cX1_init 146 = .ok (.putfield 84, 3) := by decide +kernel
theorem dX1_init_149 : decode cX1_init 149 = .ok (.aload_n 0, 1) := by decide +kernel
theorem dX1_init_150 : decode cX1_init 150 = .ok (.bipush 9, 2) := by decide +kernel
theorem dX1_init_152 : decode cX1_init 152 = .ok (.putfield 87, 3) := by decide +kernel
theorem dX1_init_155 : decode cX1_init 155 = .ok (.aload_n 0, 1) := by decide +kernel
theorem dX1_init_156 : decode cX1_init 156 = .ok (.iconst (-1), 1) := by decide +kernel
theorem dX1_init_157 : decode cX1_init 157 = .ok (.putfield 90, 3) := by decide +kernel
theorem dX1_init_160 : decode cX1_init 160 = .ok (.aload_n 0, 1) := by decide +kernel
theorem dX1_init_161 : decode cX1_init 161 = .ok (.bipush (-2), 2) := by decide +kernel
theorem dX1_init_163 : decode cX1_init 163 = .ok (.putfield 93, 3) := by decide +kernel
theorem dX1_init_166 : decode cX1_init 166 = .ok (.aload_n 0, 1) := by decide +kernel
theorem dX1_init_167 : decode cX1_init 167 = .ok (.iconst (-1), 1) := by decide +kernel
theorem dX1_init_168 : decode cX1_init 168 = .ok (.putfield 96, 3) := by decide +kernel
theorem dX1_init_171 : decode cX1_init 171 = .ok (.iconst 0, 1) := by decide +kernel
theorem dX1_init_172 : decode cX1_init 172 = .ok (.istore_n 1, 1) := by decide +kernel
theorem dX1_init_173 : decode cX1_init 173 = .ok (.iload_n 1, 1) := by decide +kernel
theorem dX1_init_174 : decode cX1_init 174 = .ok (.iconst 4, 1) := by decide +kernel
theorem dX1_init_175 : decode cX1_init 175 = .ok (.if_icmp .ge 16, 3) := by decide +kernel
theorem dX1_init_178 : decode cX1_init 178 = .ok (.aload_n 0, 1) := by decide +kernel
theorem dX1_init_179 : decode cX1_init 179 = .ok (.getfield 61, 3) := by decide +kernel
theorem dX1_init_182 : decode cX1_init 182 = .ok (.iload_n 1, 1) := by decide +kernel
theorem dX1_init_183 : decode cX1_init 183 = .ok (.iconst 1, 1) := by decide +kernel
theorem dX1_init_184 : decode cX1_init 184 = .ok (.iastore, 1) := by decide +kernel
theorem dX1_init_185 : decode cX1_init 185 = .ok (.iinc 1 1, 3) := by decide +kernel
theorem dX1_init_188 : decode cX1_init 188 = .ok (.goto (-15), 3) := by decide +kernel
theorem dX1_init_191 : decode cX1_init 191 = .ok (.return_, 1) := by decide +kernel
theorem dX1_feed_0 : decode cX1_feed 0 = .ok (.aload_n 0, 1) := by decide +kernel
theorem dX1_feed_1 : decode cX1_feed 1 = .ok (.getfield 10, 3) := by decide +kernel
theorem dX1_feed_4 : decode cX1_feed 4 = .ok (.getfield 129, 3) := by decide +kernel
theorem dX1_feed_7 : decode cX1_feed 7 = .ok (.bipush 20, 2) := by decide +kernel
theorem dX1_feed_9 : decode cX1_feed 9 = .ok (.iadd, 1) := by decide +kernel
theorem dX1_feed_10 : decode cX1_feed 10 = .ok (.sipush 400, 3) := by decide +kernel
theorem dX1_feed_13 : decode cX1_feed 13 = .ok (.if_icmp .le 5, 3) := by decide +kernel
theorem dX1_feed_16 : decode cX1_feed 16 = .ok (.iconst (-1), 1) := by decide +kernel
theorem dX1_feed_17 : decode cX1_feed 17 = .ok (.ireturn, 1) := by decide +kernel
theorem dX1_feed_18 : decode cX1_feed 18 = .ok (.aload_n 0, 1) := by decide +kernel
theorem dX1_feed_19 : decode cX1_feed 19 = .ok (.iload_n 1, 1) := by decide +kernel
theorem dX1_feed_20 : decode cX1_feed 20 = .ok (.invokevirtual 132, 3) := by decide +kernel
theorem dX1_feed_23 : decode cX1_feed 23 = .ok (.aload_n 0, 1) := by decide +kernel
theorem dX1_feed_24 : decode cX1_feed 24 = .ok (.iload_n 2, 1) := by decide +kernel
theorem dX1_feed_25 : decode cX1_feed 25 = .ok (.invokevirtual 132, 3) := by decide +kernel
theorem dX1_feed_28 : decode cX1_feed 28 = .ok (.aload_n 0, 1) := by decide +kernel
theorem dX1_feed_29 : decode cX1_feed 29 = .ok (.iload_n 3, 1) := by decide +kernel
theorem dX1_feed_30 : decode cX1_feed 30 = .ok (.invokevirtual 132, 3) := by decide +kernel
theorem dX1_feed_33 : decode cX1_feed 33 = .ok (.aload_n 0, 1) := by decide +kernel
theorem dX1_feed_34 : decode cX1_feed 34 = .ok (.iload 4, 2) := by decide +kernel
theorem dX1_feed_36 : decode cX1_feed 36 = .ok (.invokevirtual 132, 3) := by decide +kernel
theorem dX1_feed_39 : decode cX1_feed 39 = .ok (.aload_n 0, 1) := by decide +kernel
theorem dX1_feed_40 : decode cX1_feed 40 = .ok (.iload 5, 2) := by decide +kernel
theorem dX1_feed_42 : decode cX1_feed 42 = .ok (.invokevirtual 132, 3) := by decide +kernel
theorem dX1_feed_45 : decode cX1_feed 45 = .ok (.aload_n 0, 1) := by decide +kernel
theorem dX1_feed_46 : decode cX1_feed 46 = .ok (.getfield 10, 3) := by decide +kernel
theorem dX1_feed_49 : decode cX1_feed 49 = .ok (.getfield 129, 3) := by decide +kernel
theorem dX1_feed_52 : decode cX1_feed 52 = .ok (.ireturn, 1) := by decide +kernel
theorem dX1_four_0 : decode cX1_four 0 = .ok (.bipush 24, 2) := by decide +kernel
theorem dX1_four_2 : decode cX1_four 2 = .ok (.istore_n 2, 1) := by decide +kernel
theorem dX1_four_3 : decode cX1_four 3 = .ok (.iload_n 2, 1) := by decide +kernel
theorem dX1_four_4 : decode cX1_four 4 = .ok (.ifCond .lt 41, 3) := by decide +kernel
theorem dX1_four_7 : decode cX1_four 7 = .ok (.aload_n 0, 1) := by decide +kernel
theorem dX1_four_8 : decode cX1_four 8 = .ok (.getfield 10, 3) := by decide +kernel
theorem dX1_four_11 : decode cX1_four 11 = .ok (.getfield 125, 3) := by decide +kernel
theorem dX1_four_14 : decode cX1_four 14 = .ok (.aload_n 0, 1) := by decide +kernel
theorem dX1_four_15 : decode cX1_four 15 = .ok (.getfield 10, 3) := by decide +kernel
theorem dX1_four_18 : decode cX1_four 18 = .ok (.getfield 129, 3) := by decide +kernel
theorem dX1_four_21 : decode cX1_four 21 = .ok (.iload_n 1, 1) := by decide +kernel
theorem dX1_four_22 : decode cX1_four 22 = .ok (.iload_n 2, 1) := by decide +kernel
theorem dX1_four_23 : decode cX1_four 23 = .ok (.ishr, 1) := by decide +kernel
theorem dX1_four_24 : decode cX1_four 24 = .ok (.i2b, 1) := by decide +kernel
theorem dX1_four_25 : decode cX1_four 25 = .ok (.bastore, 1) := by decide +kernel
theorem dX1_four_26 : decode cX1_four 26 = .ok (.aload_n 0, 1) := by decide +kernel
theorem dX1_four_27 : decode cX1_four 27 = .ok (.getfield 10, 3) := by decide +kernel
theorem dX1_four_30 : decode cX1_four 30 = .ok (.dup, 1) := by decide +kernel
theorem dX1_four_31 : decode cX1_four 31 = .ok (.getfield 129, 3) := by decide +kernel
theorem dX1_four_34 : decode cX1_four 34 = .ok (.iconst 1, 1) := by decide +kernel
theorem dX1_four_35 : decode cX1_four 35 = .ok (.iadd, 1) := by decide +kernel
theorem dX1_four_36 : decode cX1_four 36 = .ok (.putfield 129, 3) := by decide +kernel
theorem dX1_four_39 : decode cX1_four 39 = .ok (.iinc 2 (-8), 3) := by decide +kernel
theorem dX1_four_42 : decode cX1_four 42 = .ok (.goto (-39), 3) := by decide +kernel
theorem dX1_four_45 : decode cX1_four 45 = .ok (.return_, 1) := by decide +kernel
theorem dX1_end_0 : decode cX1_end 0 = .ok (.iload_n 1, 1) := by decide +kernel
theorem dX1_end_1 : decode cX1_end 1 = .ok (.iconst 0, 1) := by decide +kernel
theorem dX1_end_2 : decode cX1_end 2 = .ok (.aload_n 0, 1) := by decide +kernel
theorem dX1_end_3 : decode cX1_end 3 = .ok (.getfield 10, 3) := by decide +kernel
theorem dX1_end_6 : decode cX1_end 6 = .ok (.getfield 129, 3) := by decide +kernel
theorem dX1_end_9 : decode cX1_end 9 = .ok (.invokestatic 114, 3) := by decide +kernel
theorem dX1_end_12 : decode cX1_end 12 = .ok (.ifCond .ne 5, 3) := by decide +kernel
theorem dX1_end_15 : decode cX1_end 15 = .ok (.iconst 0, 1) := by decide +kernel
theorem dX1_end_16 : decode cX1_end 16 = .ok (.ireturn, 1) := by decide +kernel
theorem dX1_end_17 : decode cX1_end 17 = .ok (.aload_n 0, 1) := by decide +kernel
theorem dX1_end_18 : decode cX1_end 18 = .ok (.getfield 10, 3) := by decide +kernel
theorem dX1_end_21 : decode cX1_end 21 = .ok (.iload_n 1, 1) := by decide +kernel
theorem dX1_end_22 : decode cX1_end 22 = .ok (.putfield 129, 3) := by decide +kernel
theorem dX1_end_25 : decode cX1_end 25 = .ok (.iconst 1, 1) := by decide +kernel
theorem dX1_end_26 : decode cX1_end 26 = .ok (.ireturn, 1) := by decide +kernel
theorem dX1_isIn_0 : decode cX1_isIn 0 = .ok (.iload_n 0, 1) := by decide +kernel
theorem dX1_isIn_1 : decode cX1_isIn 1 = .ok (.iload_n 1, 1) := by decide +kernel
theorem dX1_isIn_2 : decode cX1_isIn 2 = .ok (.if_icmp .lt 12, 3) := by decide +kernel
theorem dX1_isIn_5 : decode cX1_isIn 5 = .ok (.iload_n 0, 1) := by decide +kernel
theorem dX1_isIn_6 : decode cX1_isIn 6 = .ok (.iload_n 2, 1) := by decide +kernel
theorem dX1_isIn_7 : decode cX1_isIn 7 = .ok (.if_icmp .gt 7, 3) := by decide +kernel
theorem dX1_isIn_10 : decode cX1_isIn 10 = .ok (.iconst 1, 1) := by decide +kernel
theorem dX1_isIn_11 : decode cX1_isIn 11 = .ok (.goto 4, 3) := by decide +kernel
theorem dX1_isIn_14 : decode cX1_isIn 14 = .ok (.iconst 0, 1) := by decide +kernel
theorem dX1_isIn_15 : decode cX1_isIn 15 = .ok (.ireturn, 1) := by decide +kernel
theorem dX1_fault_0 : decode cX1_fault 0 = .ok (.aload_n 0, 1) := by decide +kernel
theorem dX1_fault_1 : decode cX1_fault 1 = .ok (.getfield 96, 3) := by decide +kernel
theorem dX1_fault_4 : decode cX1_fault 4 = .ok (.ireturn, 1) := by decide +kernel
theorem dX1_ends_0 : decode cX1_ends 0 = .ok (.iconst 0, 1) := by decide +kernel
theorem dX1_ends_1 : decode cX1_ends 1 = .ok (.istore_n 3, 1) := by decide +kernel
theorem dX1_ends_2 : decode cX1_ends 2 = .ok (.iconst 0, 1) := by decide +kernel
theorem dX1_ends_3 : decode cX1_ends 3 = .ok (.istore 4, 2) := by decide +kernel
theorem dX1_ends_5 : decode cX1_ends 5 = .ok (.iload 4, 2) := by decide +kernel
theorem dX1_ends_7 : decode cX1_ends 7 = .ok (.aload_n 0, 1) := by decide +kernel
theorem dX1_ends_8 : decode cX1_ends 8 = .ok (.getfield 42, 3) := by decide +kernel
theorem dX1_ends_11 : decode cX1_ends 11 = .ok (.getfield 167, 3) := by decide +kernel
theorem dX1_ends_14 : decode cX1_ends 14 = .ok (.if_icmp .ge 35, 3) := by decide +kernel
theorem dX1_ends_17 : decode cX1_ends 17 = .ok (.iload_n 3, 1) := by decide +kernel
theorem dX1_ends_18 : decode cX1_ends 18 = .ok (.aload_n 0, 1) := by decide +kernel
theorem dX1_ends_19 : decode cX1_ends 19 = .ok (.getfield 51, 3) := by decide +kernel
theorem dX1_ends_22 : decode cX1_ends 22 = .ok (.iload 4, 2) := by decide +kernel
theorem dX1_ends_24 : decode cX1_ends 24 = .ok (.aaload, 1) := by decide +kernel
theorem dX1_ends_25 : decode cX1_ends 25 = .ok (.getfield 297, 3) := by decide +kernel
theorem dX1_ends_28 : decode cX1_ends 28 = .ok (.iload_n 1, 1) := by decide +kernel
theorem dX1_ends_29 : decode cX1_ends 29 = .ok (.iload_n 2, 1) := by decide +kernel
theorem dX1_ends_30 : decode cX1_ends 30 = .ok (.invokestatic 114, 3) := by decide +kernel
theorem dX1_ends_33 : decode cX1_ends 33 = .ok (.ifCond .eq 7, 3) := by decide +kernel
theorem dX1_ends_36 : decode cX1_ends 36 = .ok (.iconst 1, 1) := by decide +kernel
theorem dX1_ends_37 : decode cX1_ends 37 = .ok (.goto 4, 3) := by decide +kernel
theorem dX1_ends_40 : decode cX1_ends 40 = .ok (.iconst 0, 1) := by decide +kernel
theorem dX1_ends_41 : decode cX1_ends 41 = .ok (.iadd, 1) := by decide +kernel
theorem dX1_ends_42 : decode cX1_ends 42 = .ok (.istore_n 3, 1) := by decide +kernel
theorem dX1_ends_43 : decode cX1_ends 43 = .ok (.iinc 4 1, 3) := by decide +kernel
theorem dX1_ends_46 : decode cX1_ends 46 = .ok (.goto (-41), 3) := by decide +kernel
theorem dX1_ends_49 : decode cX1_ends 49 = .ok (.iload_n 3, 1) := by decide +kernel
theorem dX1_ends_50 : decode cX1_ends 50 = .ok (.ireturn, 1) := by decide +kernel
theorem dX1_count_0 : decode cX1_count 0 = .ok (.aload_n 0, 1) := by decide +kernel
theorem dX1_count_1 : decode cX1_count 1 = .ok (.aload_n 0, 1) := by decide +kernel
theorem dX1_count_2 : decode cX1_count 2 = .ok (.getfield 42, 3) := by decide +kernel
theorem dX1_count_5 : decode cX1_count 5 = .ok (.getfield 140, 3) := by decide +kernel
theorem dX1_count_8 : decode cX1_count 8 = .ok (.invokevirtual 176, 3) := by decide +kernel
theorem dX1_count_11 : decode cX1_count 11 = .ok (.astore_n 2, 1) := by decide +kernel
theorem dX1_count_12 : decode cX1_count 12 = .ok (.iload_n 1, 1) := by decide +kernel
theorem dX1_count_13 : decode cX1_count 13 = .ok (.tableswitch 216 0 17 #[87, 95, 100, 105, 110, 117, 126, 133, 141, 149, 154, 159, 167, 172, 177, 185, 198, 207], 87) := by decide +kernel
theorem dX1_count_100 : decode cX1_count 100 = .ok (.aload_n 0, 1) := by decide +kernel
theorem dX1_count_101 : decode cX1_count 101 = .ok (.getfield 42, 3) := by decide +kernel
theorem dX1_count_104 : decode cX1_count 104 = .ok (.getfield 140, 3) := by decide +kernel
theorem dX1_count_107 : decode cX1_count 107 = .ok (.ireturn, 1) := by decide +kernel
theorem dX1_count_108 : decode cX1_count 108 = .ok (.aload_n 0, 1) := by decide +kernel
theorem dX1_count_109 : decode cX1_count 109 = .ok (.getfield 111, 3) := by decide +kernel
theorem dX1_count_112 : decode cX1_count 112 = .ok (.ireturn, 1) := by decide +kernel
theorem dX1_count_113 : decode cX1_count 113 = .ok (.aload_n 0, 1) := by decide +kernel
theorem dX1_count_114 : decode cX1_count 114 = .ok (.getfield 155, 3) := by decide +kernel
theorem dX1_count_117 : decode cX1_count 117 = .ok (.ireturn, 1) := by decide +kernel
theorem dX1_count_118 : decode cX1_count 118 = .ok (.aload_n 0, 1) := by decide +kernel
theorem dX1_count_119 : decode cX1_count 119 = .ok (.getfield 122, 3) := by decide +kernel
theorem dX1_count_122 : decode cX1_count 122 = .ok (.ireturn, 1) := by decide +kernel
theorem dX1_count_123 : decode cX1_count 123 = .ok (.aload_n 0, 1) := by decide +kernel
theorem dX1_count_124 : decode cX1_count 124 = .ok (.iconst 0, 1) := by decide +kernel
theorem dX1_count_125 : decode cX1_count 125 = .ok (.iconst 5, 1) := by decide +kernel
theorem dX1_count_126 : decode cX1_count 126 = .ok (.invokevirtual 426, 3) := by decide +kernel
theorem dX1_count_129 : decode cX1_count 129 = .ok (.ireturn, 1) := by decide +kernel
theorem dX1_count_130 : decode cX1_count 130 = .ok (.aload_n 0, 1) := by decide +kernel
theorem dX1_count_131 : decode cX1_count 131 = .ok (.bipush 7, 2) := by decide +kernel
theorem dX1_count_133 : decode cX1_count 133 = .ok (.bipush 7, 2) := by decide +kernel
theorem dX1_count_135 : decode cX1_count 135 = .ok (.invokevirtual 426, 3) := by decide +kernel
theorem dX1_count_138 : decode cX1_count 138 = .ok (.ireturn, 1) := by decide +kernel
theorem dX1_count_139 : decode cX1_count 139 = .ok (.aload_n 0, 1) := by decide +kernel
theorem dX1_count_140 : decode cX1_count 140 = .ok (.iconst 3, 1) := by decide +kernel
theorem dX1_count_141 : decode cX1_count 141 = .ok (.iconst 3, 1) := by decide +kernel
theorem dX1_count_142 : decode cX1_count 142 = .ok (.invokevirtual 426, 3) := by decide +kernel
theorem dX1_count_145 : decode cX1_count 145 = .ok (.ireturn, 1) := by decide +kernel
theorem dX1_count_146 : decode cX1_count 146 = .ok (.aload_n 0, 1) := by decide +kernel
theorem dX1_count_147 : decode cX1_count 147 = .ok (.getfield 42, 3) := by decide +kernel
theorem dX1_count_150 : decode cX1_count 150 = .ok (.getfield 167, 3) := by decide +kernel
theorem dX1_count_153 : decode cX1_count 153 = .ok (.ireturn, 1) := by decide +kernel
theorem dX1_count_154 : decode cX1_count 154 = .ok (.aload_n 0, 1) := by decide +kernel
theorem dX1_count_155 : decode cX1_count 155 = .ok (.getfield 42, 3) := by decide +kernel
theorem dX1_count_158 : decode cX1_count 158 = .ok (.getfield 353, 3) := by decide +kernel
theorem dX1_count_161 : decode cX1_count 161 = .ok (.ireturn, 1) := by decide +kernel
theorem dX1_count_162 : decode cX1_count 162 = .ok (.aload_n 0, 1) := by decide +kernel
theorem dX1_count_163 : decode cX1_count 163 = .ok (.getfield 277, 3) := by decide +kernel
theorem dX1_count_166 : decode cX1_count 166 = .ok (.ireturn, 1) := by decide +kernel
theorem dX1_count_167 : decode cX1_count 167 = .ok (.aload_n 0, 1) := by decide +kernel
theorem dX1_count_168 : decode cX1_count 168 = .ok (.getfield 374, 3) := by decide +kernel
theorem dX1_count_171 : decode cX1_count 171 = .ok (.ireturn, 1) := by decide +kernel
theorem dX1_count_172 : decode cX1_count 172 = .ok (.aload_n 0, 1) := by decide +kernel
theorem dX1_count_173 : decode cX1_count 173 = .ok (.getfield 42, 3) := by decide +kernel
theorem dX1_count_176 : decode cX1_count 176 = .ok (.getfield 384, 3) := by decide +kernel
theorem dX1_count_179 : decode cX1_count 179 = .ok (.ireturn, 1) := by decide +kernel
theorem dX1_count_180 : decode cX1_count 180 = .ok (.aload_n 0, 1) := by decide +kernel
theorem dX1_count_181 : decode cX1_count 181 = .ok (.getfield 410, 3) := by decide +kernel
theorem dX1_count_184 : decode cX1_count 184 = .ok (.ireturn, 1) := by decide +kernel
theorem dX1_count_185 : decode cX1_count 185 = .ok (.aload_n 0, 1) := by decide +kernel
theorem dX1_count_186 : decode cX1_count 186 = .ok (.getfield 332, 3) := by decide +kernel
theorem dX1_count_189 : decode cX1_count 189 = .ok (.ireturn, 1) := by decide +kernel
theorem dX1_count_190 : decode cX1_count 190 = .ok (.aload_n 0, 1) := by decide +kernel
theorem dX1_count_191 : decode cX1_count 191 = .ok (.getfield 42, 3) := by decide +kernel
theorem dX1_count_194 : decode cX1_count 194 = .ok (.getfield 387, 3) := by decide +kernel
theorem dX1_count_197 : decode cX1_count 197 = .ok (.ireturn, 1) := by decide +kernel
theorem dX1_count_198 : decode cX1_count 198 = .ok (.aload_n 2, 1) := by decide +kernel
theorem dX1_count_199 : decode cX1_count 199 = .ok (.ifnonnull 7, 3) := by decide +kernel
theorem dX1_count_202 : decode cX1_count 202 = .ok (.iconst 0, 1) := by decide +kernel
theorem dX1_count_203 : decode cX1_count 203 = .ok (.goto 7, 3) := by decide +kernel
theorem dX1_count_206 : decode cX1_count 206 = .ok (.aload_n 2, 1) := by decide +kernel
theorem dX1_count_207 : decode cX1_count 207 = .ok (.getfield 161, 3) := by decide +kernel
theorem dX1_count_210 : decode cX1_count 210 = .ok (.ireturn, 1) := by decide +kernel
theorem dX1_count_211 : decode cX1_count 211 = .ok (.aload_n 0, 1) := by decide +kernel
theorem dX1_count_212 : decode cX1_count 212 = .ok (.bipush 9, 2) := by decide +kernel
theorem dX1_count_214 : decode cX1_count 214 = .ok (.bipush 9, 2) := by decide +kernel
theorem dX1_count_216 : decode cX1_count 216 = .ok (.invokevirtual 426, 3) := by decide +kernel
theorem dX1_count_219 : decode cX1_count 219 = .ok (.ireturn, 1) := by decide +kernel
theorem dX1_count_220 : decode cX1_count 220 = .ok (.aload_n 0, 1) := by decide +kernel
theorem dX1_count_221 : decode cX1_count 221 = .ok (.bipush 8, 2) := by decide +kernel
theorem dX1_count_223 : decode cX1_count 223 = .ok (.bipush 8, 2) := by decide +kernel
theorem dX1_count_225 : decode cX1_count 225 = .ok (.invokevirtual 426, 3) := by decide +kernel
theorem dX1_count_228 : decode cX1_count 228 = .ok (.ireturn, 1) := by decide +kernel
theorem dX1_count_229 : decode cX1_count 229 = .ok (.iconst (-1), 1) := by decide +kernel
theorem dX1_count_230 : decode cX1_count 230 = .ok (.ireturn, 1) := by decide +kernel
theorem dX1_lawOf_0 : decode cX1_lawOf 0 = .ok (.aconst_null, 1) := by decide +kernel
theorem dX1_lawOf_1 : decode cX1_lawOf 1 = .ok (.astore_n 2, 1) := by decide +kernel
theorem dX1_lawOf_2 : decode cX1_lawOf 2 = .ok (.iconst 0, 1) := by decide +kernel
theorem dX1_lawOf_3 : decode cX1_lawOf 3 = .ok (.istore_n 3, 1) := by decide +kernel
theorem dX1_lawOf_4 : decode cX1_lawOf 4 = .ok (.iload_n 3, 1) := by decide +kernel
theorem dX1_lawOf_5 : decode cX1_lawOf 5 = .ok (.aload_n 0, 1) := by decide +kernel
theorem dX1_lawOf_6 : decode cX1_lawOf 6 = .ok (.getfield 155, 3) := by decide +kernel
theorem dX1_lawOf_9 : decode cX1_lawOf 9 = .ok (.if_icmp .ge 49, 3) := by decide +kernel
theorem dX1_lawOf_12 : decode cX1_lawOf 12 = .ok (.aload_n 0, 1) := by decide +kernel
theorem dX1_lawOf_13 : decode cX1_lawOf 13 = .ok (.getfield 18, 3) := by decide +kernel
theorem dX1_lawOf_16 : decode cX1_lawOf 16 = .ok (.iload_n 3, 1) := by decide +kernel
theorem dX1_lawOf_17 : decode cX1_lawOf 17 = .ok (.aaload, 1) := by decide +kernel
theorem dX1_lawOf_18 : decode cX1_lawOf 18 = .ok (.getfield 164, 3) := by decide +kernel
theorem dX1_lawOf_21 : decode cX1_lawOf 21 = .ok (.iload_n 1, 1) := by decide +kernel
theorem dX1_lawOf_22 : decode cX1_lawOf 22 = .ok (.if_icmp .gt 30, 3) := by decide +kernel
theorem dX1_lawOf_25 : decode cX1_lawOf 25 = .ok (.aload_n 2, 1) := by decide +kernel
theorem dX1_lawOf_26 : decode cX1_lawOf 26 = .ok (.ifnull 19, 3) := by decide +kernel
theorem dX1_lawOf_29 : decode cX1_lawOf 29 = .ok (.aload_n 0, 1) := by decide +kernel
theorem dX1_lawOf_30 : decode cX1_lawOf 30 = .ok (.getfield 18, 3) := by decide +kernel
theorem dX1_lawOf_33 : decode cX1_lawOf 33 = .ok (.iload_n 3, 1) := by decide +kernel
theorem dX1_lawOf_34 : decode cX1_lawOf 34 = .ok (.aaload, 1) := by decide +kernel
theorem dX1_lawOf_35 : decode cX1_lawOf 35 = .ok (.getfield 164, 3) := by decide +kernel
theorem dX1_lawOf_38 : decode cX1_lawOf 38 = .ok (.aload_n 2, 1) := by decide +kernel
theorem dX1_lawOf_39 : decode cX1_lawOf 39 = .ok (.getfield 164, 3) := by decide +kernel
theorem dX1_lawOf_42 : decode cX1_lawOf 42 = .ok (.if_icmp .lt 10, 3) := by decide +kernel
theorem dX1_lawOf_45 : decode cX1_lawOf 45 = .ok (.aload_n 0, 1) := by decide +kernel
theorem dX1_lawOf_46 : decode cX1_lawOf 46 = .ok (.getfield 18, 3) := by decide +kernel
theorem dX1_lawOf_49 : decode cX1_lawOf 49 = .ok (.iload_n 3, 1) := by decide +kernel
theorem dX1_lawOf_50 : decode cX1_lawOf 50 = .ok (.aaload, 1) := by decide +kernel
theorem dX1_lawOf_51 : decode cX1_lawOf 51 = .ok (.astore_n 2, 1) := by decide +kernel
theorem dX1_lawOf_52 : decode cX1_lawOf 52 = .ok (.iinc 3 1, 3) := by decide +kernel
theorem dX1_lawOf_55 : decode cX1_lawOf 55 = .ok (.goto (-51), 3) := by decide +kernel
theorem dX1_lawOf_58 : decode cX1_lawOf 58 = .ok (.aload_n 2, 1) := by decide +kernel
theorem dX1_lawOf_59 : decode cX1_lawOf 59 = .ok (.areturn, 1) := by decide +kernel
theorem dX1_inState_0 : decode cX1_inState 0 = .ok (.iconst 0, 1) := by decide +kernel
theorem dX1_inState_1 : decode cX1_inState 1 = .ok (.istore_n 3, 1) := by decide +kernel
theorem dX1_inState_2 : decode cX1_inState 2 = .ok (.iconst 0, 1) := by decide +kernel
theorem dX1_inState_3 : decode cX1_inState 3 = .ok (.istore 4, 2) := by decide +kernel
theorem dX1_inState_5 : decode cX1_inState 5 = .ok (.iload 4, 2) := by decide +kernel
theorem dX1_inState_7 : decode cX1_inState 7 = .ok (.aload_n 0, 1) := by decide +kernel
theorem dX1_inState_8 : decode cX1_inState 8 = .ok (.getfield 122, 3) := by decide +kernel
theorem dX1_inState_11 : decode cX1_inState 11 = .ok (.if_icmp .ge 38, 3) := by decide +kernel
theorem dX1_inState_14 : decode cX1_inState 14 = .ok (.iload_n 3, 1) := by decide +kernel
theorem dX1_inState_15 : decode cX1_inState 15 = .ok (.aload_n 0, 1) := by decide +kernel
theorem dX1_inState_16 : decode cX1_inState 16 = .ok (.getfield 42, 3) := by decide +kernel
theorem dX1_inState_19 : decode cX1_inState 19 = .ok (.getfield 232, 3) := by decide +kernel
theorem dX1_inState_22 : decode cX1_inState 22 = .ok (.iload 4, 2) := by decide +kernel
theorem dX1_inState_24 : decode cX1_inState 24 = .ok (.aaload, 1) := by decide +kernel
theorem dX1_inState_25 : decode cX1_inState 25 = .ok (.getfield 236, 3) := by decide +kernel
theorem dX1_inState_28 : decode cX1_inState 28 = .ok (.iload_n 1, 1) := by decide +kernel
theorem dX1_inState_29 : decode cX1_inState 29 = .ok (.iload_n 2, 1) := by decide +kernel
theorem dX1_inState_30 : decode cX1_inState 30 = .ok (.invokestatic 114, 3) := by decide +kernel
theorem dX1_inState_33 : decode cX1_inState 33 = .ok (.ifCond .eq 7, 3) := by decide +kernel
theorem dX1_inState_36 : decode cX1_inState 36 = .ok (.iconst 1, 1) := by decide +kernel
theorem dX1_inState_37 : decode cX1_inState 37 = .ok (.goto 4, 3) := by decide +kernel
theorem dX1_inState_40 : decode cX1_inState 40 = .ok (.iconst 0, 1) := by decide +kernel
theorem dX1_inState_41 : decode cX1_inState 41 = .ok (.iadd, 1) := by decide +kernel
theorem dX1_inState_42 : decode cX1_inState 42 = .ok (.istore_n 3, 1) := by decide +kernel
theorem dX1_inState_43 : decode cX1_inState 43 = .ok (.iinc 4 1, 3) := by decide +kernel
theorem dX1_inState_46 : decode cX1_inState 46 = .ok (.goto (-41), 3) := by decide +kernel
theorem dX1_inState_49 : decode cX1_inState 49 = .ok (.iload_n 3, 1) := by decide +kernel
theorem dX1_inState_50 : decode cX1_inState 50 = .ok (.ireturn, 1) := by decide +kernel
theorem dX1_law_0 : decode cX1_law 0 = .ok (.aload_n 0, 1) := by decide +kernel
theorem dX1_law_1 : decode cX1_law 1 = .ok (.invokevirtual 136, 3) := by decide +kernel
theorem dX1_law_4 : decode cX1_law 4 = .ok (.istore_n 2, 1) := by decide +kernel
theorem dX1_law_5 : decode cX1_law 5 = .ok (.iload_n 1, 1) := by decide +kernel
theorem dX1_law_6 : decode cX1_law 6 = .ok (.aload_n 0, 1) := by decide +kernel
theorem dX1_law_7 : decode cX1_law 7 = .ok (.getfield 42, 3) := by decide +kernel
theorem dX1_law_10 : decode cX1_law 10 = .ok (.getfield 140, 3) := by decide +kernel
theorem dX1_law_13 : decode cX1_law 13 = .ok (.sipush 1000, 3) := by decide +kernel
theorem dX1_law_16 : decode cX1_law 16 = .ok (.invokestatic 114, 3) := by decide +kernel
theorem dX1_law_19 : decode cX1_law 19 = .ok (.invokestatic 143, 3) := by decide +kernel
theorem dX1_law_22 : decode cX1_law 22 = .ok (.aload_n 0, 1) := by decide +kernel
theorem dX1_law_23 : decode cX1_law 23 = .ok (.iconst (-1), 1) := by decide +kernel
theorem dX1_law_24 : decode cX1_law 24 = .ok (.putfield 96, 3) := by decide +kernel
theorem dX1_law_27 : decode cX1_law 27 = .ok (.aload_n 0, 1) := by decide +kernel
theorem dX1_law_28 : decode cX1_law 28 = .ok (.getfield 10, 3) := by decide +kernel
theorem dX1_law_31 : decode cX1_law 31 = .ok (.iload_n 2, 1) := by decide +kernel
theorem dX1_law_32 : decode cX1_law 32 = .ok (.iload_n 1, 1) := by decide +kernel
theorem dX1_law_33 : decode cX1_law 33 = .ok (.invokevirtual 146, 3) := by decide +kernel
theorem dX1_law_36 : decode cX1_law 36 = .ok (.astore_n 3, 1) := by decide +kernel
theorem dX1_law_37 : decode cX1_law 37 = .ok (.goto 22, 3) := by decide +kernel
theorem dX1_law_40 : decode cX1_law 40 = .ok (.astore 4, 2) := by decide +kernel
theorem dX1_law_42 : decode cX1_law 42 = .ok (.aload_n 0, 1) := by decide +kernel
theorem dX1_law_43 : decode cX1_law 43 = .ok (.aload 4, 2) := by decide +kernel
theorem dX1_law_45 : decode cX1_law 45 = .ok (.getfield 152, 3) := by decide +kernel
theorem dX1_law_48 : decode cX1_law 48 = .ok (.putfield 96, 3) := by decide +kernel
theorem dX1_law_51 : decode cX1_law 51 = .ok (.new 99, 3) := by decide +kernel
theorem dX1_law_54 : decode cX1_law 54 = .ok (.dup, 1) := by decide +kernel
theorem dX1_law_55 : decode cX1_law 55 = .ok (.invokespecial 101, 3) := by decide +kernel
theorem dX1_law_58 : decode cX1_law 58 = .ok (.athrow, 1) := by decide +kernel
theorem dX1_law_59 : decode cX1_law 59 = .ok (.aload_n 0, 1) := by decide +kernel
theorem dX1_law_60 : decode cX1_law 60 = .ok (.getfield 155, 3) := by decide +kernel
theorem dX1_law_63 : decode cX1_law 63 = .ok (.bipush 12, 2) := by decide +kernel
theorem dX1_law_65 : decode cX1_law 65 = .ok (.if_icmp .ge 7, 3) := by decide +kernel
theorem dX1_law_68 : decode cX1_law 68 = .ok (.iconst 1, 1) := by decide +kernel
theorem dX1_law_69 : decode cX1_law 69 = .ok (.goto 4, 3) := by decide +kernel
theorem dX1_law_72 : decode cX1_law 72 = .ok (.iconst 0, 1) := by decide +kernel
theorem dX1_law_73 : decode cX1_law 73 = .ok (.invokestatic 158, 3) := by decide +kernel
theorem dX1_law_76 : decode cX1_law 76 = .ok (.aload_n 0, 1) := by decide +kernel
theorem dX1_law_77 : decode cX1_law 77 = .ok (.getfield 18, 3) := by decide +kernel
theorem dX1_law_80 : decode cX1_law 80 = .ok (.aload_n 0, 1) := by decide +kernel
theorem dX1_law_81 : decode cX1_law 81 = .ok (.getfield 155, 3) := by decide +kernel
theorem dX1_law_84 : decode cX1_law 84 = .ok (.aload_n 3, 1) := by decide +kernel
theorem dX1_law_85 : decode cX1_law 85 = .ok (.aastore, 1) := by decide +kernel
theorem dX1_law_86 : decode cX1_law 86 = .ok (.aload_n 0, 1) := by decide +kernel
theorem dX1_law_87 : decode cX1_law 87 = .ok (.dup, 1) := by decide +kernel
theorem dX1_law_88 : decode cX1_law 88 = .ok (.getfield 155, 3) := by decide +kernel
theorem dX1_law_91 : decode cX1_law 91 = .ok (.iconst 1, 1) := by decide +kernel
theorem dX1_law_92 : decode cX1_law 92 = .ok (.iadd, 1) := by decide +kernel
theorem dX1_law_93 : decode cX1_law 93 = .ok (.putfield 155, 3) := by decide +kernel
theorem dX1_law_96 : decode cX1_law 96 = .ok (.aload_n 3, 1) := by decide +kernel
theorem dX1_law_97 : decode cX1_law 97 = .ok (.getfield 161, 3) := by decide +kernel
theorem dX1_law_100 : decode cX1_law 100 = .ok (.ireturn, 1) := by decide +kernel
theorem dX1_use_0 : decode cX1_use 0 = .ok (.aload_n 0, 1) := by decide +kernel
theorem dX1_use_1 : decode cX1_use 1 = .ok (.getfield 10, 3) := by decide +kernel
theorem dX1_use_4 : decode cX1_use 4 = .ok (.getfield 129, 3) := by decide +kernel
theorem dX1_use_7 : decode cX1_use 7 = .ok (.istore_n 1, 1) := by decide +kernel
theorem dX1_use_8 : decode cX1_use 8 = .ok (.aload_n 0, 1) := by decide +kernel
theorem dX1_use_9 : decode cX1_use 9 = .ok (.getfield 10, 3) := by decide +kernel
theorem dX1_use_12 : decode cX1_use 12 = .ok (.iconst 0, 1) := by decide +kernel
theorem dX1_use_13 : decode cX1_use 13 = .ok (.putfield 129, 3) := by decide +kernel
theorem dX1_use_16 : decode cX1_use 16 = .ok (.iload_n 1, 1) := by decide +kernel
theorem dX1_use_17 : decode cX1_use 17 = .ok (.ireturn, 1) := by decide +kernel
theorem dX1_must_0 : decode cX1_must 0 = .ok (.iload_n 0, 1) := by decide +kernel
theorem dX1_must_1 : decode cX1_must 1 = .ok (.ifCond .ne 11, 3) := by decide +kernel
theorem dX1_must_4 : decode cX1_must 4 = .ok (.new 99, 3) := by decide +kernel
theorem dX1_must_7 : decode cX1_must 7 = .ok (.dup, 1) := by decide +kernel
theorem dX1_must_8 : decode cX1_must 8 = .ok (.invokespecial 101, 3) := by decide +kernel
theorem dX1_must_11 : decode cX1_must 11 = .ok (.athrow, 1) := by decide +kernel
theorem dX1_must_12 : decode cX1_must 12 = .ok (.return_, 1) := by decide +kernel
theorem dX1_mayBe_0 : decode cX1_mayBe 0 = .ok (.iload_n 0, 1) := by decide +kernel
theorem dX1_mayBe_1 : decode cX1_mayBe 1 = .ok (.ifCond .ne 11, 3) := by decide +kernel
theorem dX1_mayBe_4 : decode cX1_mayBe 4 = .ok (.new 102, 3) := by decide +kernel
theorem dX1_mayBe_7 : decode cX1_mayBe 7 = .ok (.dup, 1) := by decide +kernel
theorem dX1_mayBe_8 : decode cX1_mayBe 8 = .ok (.invokespecial 104, 3) := by decide +kernel
theorem dX1_mayBe_11 : decode cX1_mayBe 11 = .ok (.athrow, 1) := by decide +kernel
theorem dX1_mayBe_12 : decode cX1_mayBe 12 = .ok (.return_, 1) := by decide +kernel
theorem dX1_person_0 : decode cX1_person 0 = .ok (.iconst 5, 1) := by decide +kernel
theorem dX1_person_1 : decode cX1_person 1 = .ok (.newarray .int, 2) := by decide +kernel
theorem dX1_person_3 : decode cX1_person 3 = .ok (.dup, 1) := by decide +kernel
theorem dX1_person_4 : decode cX1_person 4 = .ok (.iconst 0, 1) := by decide +kernel
theorem dX1_person_5 : decode cX1_person 5 = .ok (.iload_n 3, 1) := by decide +kernel
theorem dX1_person_6 : decode cX1_person 6 = .ok (.iastore, 1) := by decide +kernel
theorem dX1_person_7 : decode cX1_person 7 = .ok (.dup, 1) := by decide +kernel
theorem dX1_person_8 : decode cX1_person 8 = .ok (.iconst 1, 1) := by decide +kernel
theorem dX1_person_9 : decode cX1_person 9 = .ok (.iload 4, 2) := by decide +kernel
theorem dX1_person_11 : decode cX1_person 11 = .ok (.iastore, 1) := by decide +kernel
theorem dX1_person_12 : decode cX1_person 12 = .ok (.dup, 1) := by decide +kernel
theorem dX1_person_13 : decode cX1_person 13 = .ok (.iconst 2, 1) := by decide +kernel
theorem dX1_person_14 : decode cX1_person 14 = .ok (.iload 5, 2) := by decide +kernel
theorem dX1_person_16 : decode cX1_person 16 = .ok (.iastore, 1) := by decide +kernel
theorem dX1_person_17 : decode cX1_person 17 = .ok (.dup, 1) := by decide +kernel
theorem dX1_person_18 : decode cX1_person 18 = .ok (.iconst 3, 1) := by decide +kernel
theorem dX1_person_19 : decode cX1_person 19 = .ok (.iload 6, 2) := by decide +kernel
theorem dX1_person_21 : decode cX1_person 21 = .ok (.iastore, 1) := by decide +kernel
theorem dX1_person_22 : decode cX1_person 22 = .ok (.dup, 1) := by decide +kernel
theorem dX1_person_23 : decode cX1_person 23 = .ok (.iconst 4, 1) := by decide +kernel
theorem dX1_person_24 : decode cX1_person 24 = .ok (.iload 7, 2) := by decide +kernel
theorem dX1_person_26 : decode cX1_person 26 = .ok (.iastore, 1) := by decide +kernel
theorem dX1_person_27 : decode cX1_person 27 = .ok (.astore 8, 2) := by decide +kernel
theorem dX1_person_29 : decode cX1_person 29 = .ok (.iload_n 1, 1) := by decide +kernel
theorem dX1_person_30 : decode cX1_person 30 = .ok (.ldc 197, 2) := by decide +kernel
theorem dX1_person_32 : decode cX1_person 32 = .ok (.aload_n 0, 1) := by decide +kernel
theorem dX1_person_33 : decode cX1_person 33 = .ok (.getfield 42, 3) := by decide +kernel
theorem dX1_person_36 : decode cX1_person 36 = .ok (.getfield 140, 3) := by decide +kernel
theorem dX1_person_39 : decode cX1_person 39 = .ok (.invokestatic 114, 3) := by decide +kernel
theorem dX1_person_42 : decode cX1_person 42 = .ok (.istore 9, 2) := by decide +kernel
theorem dX1_person_44 : decode cX1_person 44 = .ok (.iconst 0, 1) := by decide +kernel
theorem dX1_person_45 : decode cX1_person 45 = .ok (.istore 10, 2) := by decide +kernel
theorem dX1_person_47 : decode cX1_person 47 = .ok (.iload 10, 2) := by decide +kernel
theorem dX1_person_49 : decode cX1_person 49 = .ok (.iconst 5, 1) := by decide +kernel
theorem dX1_person_50 : decode cX1_person 50 = .ok (.if_icmp .ge 35, 3) := by decide +kernel
theorem dX1_person_53 : decode cX1_person 53 = .ok (.iload 9, 2) := by decide +kernel
theorem dX1_person_55 : decode cX1_person 55 = .ok (.ifCond .eq 21, 3) := by decide +kernel
theorem dX1_person_58 : decode cX1_person 58 = .ok (.aload 8, 2) := by decide +kernel
theorem dX1_person_60 : decode cX1_person 60 = .ok (.iload 10, 2) := by decide +kernel
theorem dX1_person_62 : decode cX1_person 62 = .ok (.iaload, 1) := by decide +kernel
theorem dX1_person_63 : decode cX1_person 63 = .ok (.iconst 0, 1) := by decide +kernel
theorem dX1_person_64 : decode cX1_person 64 = .ok (.bipush 99, 2) := by decide +kernel
theorem dX1_person_66 : decode cX1_person 66 = .ok (.invokestatic 114, 3) := by decide +kernel
theorem dX1_person_69 : decode cX1_person 69 = .ok (.ifCond .eq 7, 3) := by decide +kernel
theorem dX1_person_72 : decode cX1_person 72 = .ok (.iconst 1, 1) := by decide +kernel
theorem dX1_person_73 : decode cX1_person 73 = .ok (.goto 4, 3) := by decide +kernel
theorem dX1_person_76 : decode cX1_person 76 = .ok (.iconst 0, 1) := by decide +kernel
theorem dX1_person_77 : decode cX1_person 77 = .ok (.istore 9, 2) := by decide +kernel
theorem dX1_person_79 : decode cX1_person 79 = .ok (.iinc 10 1, 3) := by decide +kernel
theorem dX1_person_82 : decode cX1_person 82 = .ok (.goto (-35), 3) := by decide +kernel
theorem dX1_person_85 : decode cX1_person 85 = .ok (.iload 9, 2) := by decide +kernel
theorem dX1_person_87 : decode cX1_person 87 = .ok (.invokestatic 143, 3) := by decide +kernel
theorem dX1_person_90 : decode cX1_person 90 = .ok (.aload_n 0, 1) := by decide +kernel
theorem dX1_person_91 : decode cX1_person 91 = .ok (.getfield 111, 3) := by decide +kernel
theorem dX1_person_94 : decode cX1_person 94 = .ok (.bipush 80, 2) := by decide +kernel
theorem dX1_person_96 : decode cX1_person 96 = .ok (.if_icmp .ge 7, 3) := by decide +kernel
theorem dX1_person_99 : decode cX1_person 99 = .ok (.iconst 1, 1) := by decide +kernel
theorem dX1_person_100 : decode cX1_person 100 = .ok (.goto 4, 3) := by decide +kernel
theorem dX1_person_103 : decode cX1_person 103 = .ok (.iconst 0, 1) := by decide +kernel
theorem dX1_person_104 : decode cX1_person 104 = .ok (.invokestatic 158, 3) := by decide +kernel
theorem dX1_person_107 : decode cX1_person 107 = .ok (.aload_n 0, 1) := by decide +kernel
theorem dX1_person_108 : decode cX1_person 108 = .ok (.getfield 24, 3) := by decide +kernel
theorem dX1_person_111 : decode cX1_person 111 = .ok (.aload_n 0, 1) := by decide +kernel
theorem dX1_person_112 : decode cX1_person 112 = .ok (.getfield 111, 3) := by decide +kernel
theorem dX1_person_115 : decode cX1_person 115 = .ok (.new 22, 3) := by decide +kernel
theorem dX1_person_118 : decode cX1_person 118 = .ok (.dup, 1) := by decide +kernel
theorem dX1_person_119 : decode cX1_person 119 = .ok (.iload_n 1, 1) := by decide +kernel
theorem dX1_person_120 : decode cX1_person 120 = .ok (.iload_n 2, 1) := by decide +kernel
theorem dX1_person_121 : decode cX1_person 121 = .ok (.aload 8, 2) := by decide +kernel
theorem dX1_person_123 : decode cX1_person 123 = .ok (.invokespecial 198, 3) := by decide +kernel
theorem dX1_person_126 : decode cX1_person 126 = .ok (.aastore, 1) := by decide +kernel
theorem dX1_person_127 : decode cX1_person 127 = .ok (.aload_n 0, 1) := by decide +kernel
theorem dX1_person_128 : decode cX1_person 128 = .ok (.dup, 1) := by decide +kernel
theorem dX1_person_129 : decode cX1_person 129 = .ok (.getfield 111, 3) := by decide +kernel
theorem dX1_person_132 : decode cX1_person 132 = .ok (.iconst 1, 1) := by decide +kernel
theorem dX1_person_133 : decode cX1_person 133 = .ok (.iadd, 1) := by decide +kernel
theorem dX1_person_134 : decode cX1_person 134 = .ok (.putfield 111, 3) := by decide +kernel
theorem dX1_person_137 : decode cX1_person 137 = .ok (.aload_n 0, 1) := by decide +kernel
theorem dX1_person_138 : decode cX1_person 138 = .ok (.getfield 111, 3) := by decide +kernel
theorem dX1_person_141 : decode cX1_person 141 = .ok (.iconst 1, 1) := by decide +kernel
theorem dX1_person_142 : decode cX1_person 142 = .ok (.isub, 1) := by decide +kernel
theorem dX1_person_143 : decode cX1_person 143 = .ok (.ireturn, 1) := by decide +kernel
theorem dX1_name_0 : decode cX1_name 0 = .ok (.aload_n 0, 1) := by decide +kernel
theorem dX1_name_1 : decode cX1_name 1 = .ok (.invokevirtual 136, 3) := by decide +kernel
theorem dX1_name_4 : decode cX1_name 4 = .ok (.istore_n 2, 1) := by decide +kernel
theorem dX1_name_5 : decode cX1_name 5 = .ok (.aload_n 0, 1) := by decide +kernel
theorem dX1_name_6 : decode cX1_name 6 = .ok (.iload_n 1, 1) := by decide +kernel
theorem dX1_name_7 : decode cX1_name 7 = .ok (.invokevirtual 201, 3) := by decide +kernel
theorem dX1_name_10 : decode cX1_name 10 = .ok (.astore_n 3, 1) := by decide +kernel
theorem dX1_name_11 : decode cX1_name 11 = .ok (.aload_n 0, 1) := by decide +kernel
theorem dX1_name_12 : decode cX1_name 12 = .ok (.iconst (-1), 1) := by decide +kernel
theorem dX1_name_13 : decode cX1_name 13 = .ok (.putfield 96, 3) := by decide +kernel
theorem dX1_name_16 : decode cX1_name 16 = .ok (.aload_n 0, 1) := by decide +kernel
theorem dX1_name_17 : decode cX1_name 17 = .ok (.getfield 10, 3) := by decide +kernel
theorem dX1_name_20 : decode cX1_name 20 = .ok (.iload_n 2, 1) := by decide +kernel
theorem dX1_name_21 : decode cX1_name 21 = .ok (.invokevirtual 205, 3) := by decide +kernel
theorem dX1_name_24 : decode cX1_name 24 = .ok (.istore 4, 2) := by decide +kernel
theorem dX1_name_26 : decode cX1_name 26 = .ok (.goto 22, 3) := by decide +kernel
theorem dX1_name_29 : decode cX1_name 29 = .ok (.astore 5, 2) := by decide +kernel
theorem dX1_name_31 : decode cX1_name 31 = .ok (.aload_n 0, 1) := by decide +kernel
theorem dX1_name_32 : decode cX1_name 32 = .ok (.aload 5, 2) := by decide +kernel
theorem dX1_name_34 : decode cX1_name 34 = .ok (.getfield 152, 3) := by decide +kernel
theorem dX1_name_37 : decode cX1_name 37 = .ok (.putfield 96, 3) := by decide +kernel
theorem dX1_name_40 : decode cX1_name 40 = .ok (.new 99, 3) := by decide +kernel
theorem dX1_name_43 : decode cX1_name 43 = .ok (.dup, 1) := by decide +kernel
theorem dX1_name_44 : decode cX1_name 44 = .ok (.invokespecial 101, 3) := by decide +kernel
theorem dX1_name_47 : decode cX1_name 47 = .ok (.athrow, 1) := by decide +kernel
theorem dX1_name_48 : decode cX1_name 48 = .ok (.bipush 24, 2) := by decide +kernel
theorem dX1_name_50 : decode cX1_name 50 = .ok (.newarray .byte, 2) := by decide +kernel
theorem dX1_name_52 : decode cX1_name 52 = .ok (.astore 5, 2) := by decide +kernel
theorem dX1_name_54 : decode cX1_name 54 = .ok (.iconst 0, 1) := by decide +kernel
theorem dX1_name_55 : decode cX1_name 55 = .ok (.istore 6, 2) := by decide +kernel
theorem dX1_name_57 : decode cX1_name 57 = .ok (.iload 6, 2) := by decide +kernel
theorem dX1_name_59 : decode cX1_name 59 = .ok (.bipush 24, 2) := by decide +kernel
theorem dX1_name_61 : decode cX1_name 61 = .ok (.if_icmp .ge 36, 3) := by decide +kernel
theorem dX1_name_64 : decode cX1_name 64 = .ok (.aload 5, 2) := by decide +kernel
theorem dX1_name_66 : decode cX1_name 66 = .ok (.iload 6, 2) := by decide +kernel
theorem dX1_name_68 : decode cX1_name 68 = .ok (.iload 6, 2) := by decide +kernel
theorem dX1_name_70 : decode cX1_name 70 = .ok (.iload 4, 2) := by decide +kernel
theorem dX1_name_72 : decode cX1_name 72 = .ok (.if_icmp .ge 16, 3) := by decide +kernel
theorem dX1_name_75 : decode cX1_name 75 = .ok (.aload_n 0, 1) := by decide +kernel
theorem dX1_name_76 : decode cX1_name 76 = .ok (.getfield 10, 3) := by decide +kernel
theorem dX1_name_79 : decode cX1_name 79 = .ok (.getfield 209, 3) := by decide +kernel
theorem dX1_name_82 : decode cX1_name 82 = .ok (.iload 6, 2) := by decide +kernel
theorem dX1_name_84 : decode cX1_name 84 = .ok (.baload, 1) := by decide +kernel
theorem dX1_name_85 : decode cX1_name 85 = .ok (.goto 5, 3) := by decide +kernel
theorem dX1_name_88 : decode cX1_name 88 = .ok (.bipush 60, 2) := by decide +kernel
theorem dX1_name_90 : decode cX1_name 90 = .ok (.bastore, 1) := by decide +kernel
theorem dX1_name_91 : decode cX1_name 91 = .ok (.iinc 6 1, 3) := by decide +kernel
theorem dX1_name_94 : decode cX1_name 94 = .ok (.goto (-37), 3) := by decide +kernel
theorem dX1_name_97 : decode cX1_name 97 = .ok (.aload_n 3, 1) := by decide +kernel
theorem dX1_name_98 : decode cX1_name 98 = .ok (.aload 5, 2) := by decide +kernel
theorem dX1_name_100 : decode cX1_name 100 = .ok (.putfield 212, 3) := by decide +kernel
theorem dX1_name_103 : decode cX1_name 103 = .ok (.iload 4, 2) := by decide +kernel
theorem dX1_name_105 : decode cX1_name 105 = .ok (.ireturn, 1) := by decide +kernel
theorem dX1_personAt_0 : decode cX1_personAt 0 = .ok (.iload_n 1, 1) := by decide +kernel
theorem dX1_personAt_1 : decode cX1_personAt 1 = .ok (.iconst 0, 1) := by decide +kernel
theorem dX1_personAt_2 : decode cX1_personAt 2 = .ok (.aload_n 0, 1) := by decide +kernel
theorem dX1_personAt_3 : decode cX1_personAt 3 = .ok (.getfield 111, 3) := by decide +kernel
theorem dX1_personAt_6 : decode cX1_personAt 6 = .ok (.iconst 1, 1) := by decide +kernel
theorem dX1_personAt_7 : decode cX1_personAt 7 = .ok (.isub, 1) := by decide +kernel
theorem dX1_personAt_8 : decode cX1_personAt 8 = .ok (.invokestatic 114, 3) := by decide +kernel
theorem dX1_personAt_11 : decode cX1_personAt 11 = .ok (.invokestatic 118, 3) := by decide +kernel
theorem dX1_personAt_14 : decode cX1_personAt 14 = .ok (.aload_n 0, 1) := by decide +kernel
theorem dX1_personAt_15 : decode cX1_personAt 15 = .ok (.getfield 24, 3) := by decide +kernel
theorem dX1_personAt_18 : decode cX1_personAt 18 = .ok (.iload_n 1, 1) := by decide +kernel
theorem dX1_personAt_19 : decode cX1_personAt 19 = .ok (.aaload, 1) := by decide +kernel
theorem dX1_personAt_20 : decode cX1_personAt 20 = .ok (.areturn, 1) := by decide +kernel
theorem dX1_mustBe_0 : decode cX1_mustBe 0 = .ok (.iload_n 0, 1) := by decide +kernel
theorem dX1_mustBe_1 : decode cX1_mustBe 1 = .ok (.ifCond .ne 11, 3) := by decide +kernel
theorem dX1_mustBe_4 : decode cX1_mustBe 4 = .ok (.new 105, 3) := by decide +kernel
theorem dX1_mustBe_7 : decode cX1_mustBe 7 = .ok (.dup, 1) := by decide +kernel
theorem dX1_mustBe_8 : decode cX1_mustBe 8 = .ok (.invokespecial 107, 3) := by decide +kernel
theorem dX1_mustBe_11 : decode cX1_mustBe 11 = .ok (.athrow, 1) := by decide +kernel
theorem dX1_mustBe_12 : decode cX1_mustBe 12 = .ok (.return_, 1) := by decide +kernel
theorem dX1_sign_0 : decode cX1_sign 0 = .ok (.aload_n 0, 1) := by decide +kernel
theorem dX1_sign_1 : decode cX1_sign 1 = .ok (.iload_n 1, 1) := by decide +kernel
theorem dX1_sign_2 : decode cX1_sign 2 = .ok (.invokevirtual 201, 3) := by decide +kernel
theorem dX1_sign_5 : decode cX1_sign 5 = .ok (.astore_n 3, 1) := by decide +kernel
theorem dX1_sign_6 : decode cX1_sign 6 = .ok (.aload_n 3, 1) := by decide +kernel
theorem dX1_sign_7 : decode cX1_sign 7 = .ok (.getfield 212, 3) := by decide +kernel
theorem dX1_sign_10 : decode cX1_sign 10 = .ok (.ifnull 13, 3) := by decide +kernel
theorem dX1_sign_13 : decode cX1_sign 13 = .ok (.iload_n 2, 1) := by decide +kernel
theorem dX1_sign_14 : decode cX1_sign 14 = .ok (.iconst 0, 1) := by decide +kernel
theorem dX1_sign_15 : decode cX1_sign 15 = .ok (.bipush 23, 2) := by decide +kernel
theorem dX1_sign_17 : decode cX1_sign 17 = .ok (.invokestatic 114, 3) := by decide +kernel
theorem dX1_sign_20 : decode cX1_sign 20 = .ok (.ifCond .ne 7, 3) := by decide +kernel
theorem dX1_sign_23 : decode cX1_sign 23 = .ok (.iconst (-1), 1) := by decide +kernel
theorem dX1_sign_24 : decode cX1_sign 24 = .ok (.goto 9, 3) := by decide +kernel
theorem dX1_sign_27 : decode cX1_sign 27 = .ok (.aload_n 3, 1) := by decide +kernel
theorem dX1_sign_28 : decode cX1_sign 28 = .ok (.getfield 212, 3) := by decide +kernel
theorem dX1_sign_31 : decode cX1_sign 31 = .ok (.iload_n 2, 1) := by decide +kernel
theorem dX1_sign_32 : decode cX1_sign 32 = .ok (.baload, 1) := by decide +kernel
theorem dX1_sign_33 : decode cX1_sign 33 = .ok (.ireturn, 1) := by decide +kernel
theorem dX1_figure_0 : decode cX1_figure 0 = .ok (.aload_n 0, 1) := by decide +kernel
theorem dX1_figure_1 : decode cX1_figure 1 = .ok (.iload_n 1, 1) := by decide +kernel
theorem dX1_figure_2 : decode cX1_figure 2 = .ok (.invokevirtual 201, 3) := by decide +kernel
theorem dX1_figure_5 : decode cX1_figure 5 = .ok (.astore_n 2, 1) := by decide +kernel
theorem dX1_figure_6 : decode cX1_figure 6 = .ok (.aload_n 2, 1) := by decide +kernel
theorem dX1_figure_7 : decode cX1_figure 7 = .ok (.getfield 212, 3) := by decide +kernel
theorem dX1_figure_10 : decode cX1_figure 10 = .ok (.ifnonnull 5, 3) := by decide +kernel
theorem dX1_figure_13 : decode cX1_figure 13 = .ok (.iconst (-1), 1) := by decide +kernel
theorem dX1_figure_14 : decode cX1_figure 14 = .ok (.ireturn, 1) := by decide +kernel
theorem dX1_figure_15 : decode cX1_figure 15 = .ok (.iconst 0, 1) := by decide +kernel
theorem dX1_figure_16 : decode cX1_figure 16 = .ok (.istore_n 3, 1) := by decide +kernel
theorem dX1_figure_17 : decode cX1_figure 17 = .ok (.iconst 0, 1) := by decide +kernel
theorem dX1_figure_18 : decode cX1_figure 18 = .ok (.istore 4, 2) := by decide +kernel
theorem dX1_figure_20 : decode cX1_figure 20 = .ok (.iload 4, 2) := by decide +kernel
theorem dX1_figure_22 : decode cX1_figure 22 = .ok (.bipush 24, 2) := by decide +kernel
theorem dX1_figure_24 : decode cX1_figure 24 = .ok (.if_icmp .ge 71, 3) := by decide +kernel
theorem dX1_figure_27 : decode cX1_figure 27 = .ok (.aload_n 2, 1) := by decide +kernel
theorem dX1_figure_28 : decode cX1_figure 28 = .ok (.getfield 212, 3) := by decide +kernel
theorem dX1_figure_31 : decode cX1_figure 31 = .ok (.iload 4, 2) := by decide +kernel
theorem dX1_figure_33 : decode cX1_figure 33 = .ok (.baload, 1) := by decide +kernel
theorem dX1_figure_34 : decode cX1_figure 34 = .ok (.bipush 60, 2) := by decide +kernel
theorem dX1_figure_36 : decode cX1_figure 36 = .ok (.if_icmp .ne 7, 3) := by decide +kernel
theorem dX1_figure_39 : decode cX1_figure 39 = .ok (.iconst 0, 1) := by decide +kernel
theorem dX1_figure_40 : decode cX1_figure 40 = .ok (.goto 16, 3) := by decide +kernel
theorem dX1_figure_43 : decode cX1_figure 43 = .ok (.aload_n 2, 1) := by decide +kernel
theorem dX1_figure_44 : decode cX1_figure 44 = .ok (.getfield 212, 3) := by decide +kernel
theorem dX1_figure_47 : decode cX1_figure 47 = .ok (.iload 4, 2) := by decide +kernel
theorem dX1_figure_49 : decode cX1_figure 49 = .ok (.baload, 1) := by decide +kernel
theorem dX1_figure_50 : decode cX1_figure 50 = .ok (.bipush 65, 2) := by decide +kernel
theorem dX1_figure_52 : decode cX1_figure 52 = .ok (.isub, 1) := by decide +kernel
theorem dX1_figure_53 : decode cX1_figure 53 = .ok (.bipush 10, 2) := by decide +kernel
theorem dX1_figure_55 : decode cX1_figure 55 = .ok (.iadd, 1) := by decide +kernel
theorem dX1_figure_56 : decode cX1_figure 56 = .ok (.istore 5, 2) := by decide +kernel
theorem dX1_figure_58 : decode cX1_figure 58 = .ok (.iload_n 3, 1) := by decide +kernel
theorem dX1_figure_59 : decode cX1_figure 59 = .ok (.iload 5, 2) := by decide +kernel
theorem dX1_figure_61 : decode cX1_figure 61 = .ok (.iload 4, 2) := by decide +kernel
theorem dX1_figure_63 : decode cX1_figure 63 = .ok (.iconst 3, 1) := by decide +kernel
theorem dX1_figure_64 : decode cX1_figure 64 = .ok (.irem, 1) := by decide +kernel
theorem dX1_figure_65 : decode cX1_figure 65 = .ok (.ifCond .ne 8, 3) := by decide +kernel
theorem dX1_figure_68 : decode cX1_figure 68 = .ok (.bipush 7, 2) := by decide +kernel
theorem dX1_figure_70 : decode cX1_figure 70 = .ok (.goto 16, 3) := by decide +kernel
theorem dX1_figure_73 : decode cX1_figure 73 = .ok (.iload 4, 2) := by decide +kernel
theorem dX1_figure_75 : decode cX1_figure 75 = .ok (.iconst 3, 1) := by decide +kernel
theorem dX1_figure_76 : decode cX1_figure 76 = .ok (.irem, 1) := by decide +kernel
theorem dX1_figure_77 : decode cX1_figure 77 = .ok (.iconst 1, 1) := by decide +kernel
theorem dX1_figure_78 : decode cX1_figure 78 = .ok (.if_icmp .ne 7, 3) := by decide +kernel
theorem dX1_figure_81 : decode cX1_figure 81 = .ok (.iconst 3, 1) := by decide +kernel
theorem dX1_figure_82 : decode cX1_figure 82 = .ok (.goto 4, 3) := by decide +kernel
theorem dX1_figure_85 : decode cX1_figure 85 = .ok (.iconst 1, 1) := by decide +kernel
theorem dX1_figure_86 : decode cX1_figure 86 = .ok (.imul, 1) := by decide +kernel
theorem dX1_figure_87 : decode cX1_figure 87 = .ok (.iadd, 1) := by decide +kernel
theorem dX1_figure_88 : decode cX1_figure 88 = .ok (.istore_n 3, 1) := by decide +kernel
theorem dX1_figure_89 : decode cX1_figure 89 = .ok (.iinc 4 1, 3) := by decide +kernel
theorem dX1_figure_92 : decode cX1_figure 92 = .ok (.goto (-72), 3) := by decide +kernel
theorem dX1_figure_95 : decode cX1_figure 95 = .ok (.iload_n 3, 1) := by decide +kernel
theorem dX1_figure_96 : decode cX1_figure 96 = .ok (.bipush 10, 2) := by decide +kernel
theorem dX1_figure_98 : decode cX1_figure 98 = .ok (.irem, 1) := by decide +kernel
theorem dX1_figure_99 : decode cX1_figure 99 = .ok (.ireturn, 1) := by decide +kernel
theorem dX1_far_0 : decode cX1_far 0 = .ok (.aload_n 0, 1) := by decide +kernel
theorem dX1_far_1 : decode cX1_far 1 = .ok (.iload_n 1, 1) := by decide +kernel
theorem dX1_far_2 : decode cX1_far 2 = .ok (.invokevirtual 201, 3) := by decide +kernel
theorem dX1_far_5 : decode cX1_far 5 = .ok (.aload_n 0, 1) := by decide +kernel
theorem dX1_far_6 : decode cX1_far 6 = .ok (.iload_n 2, 1) := by decide +kernel
theorem dX1_far_7 : decode cX1_far 7 = .ok (.invokevirtual 201, 3) := by decide +kernel
theorem dX1_far_10 : decode cX1_far 10 = .ok (.invokevirtual 214, 3) := by decide +kernel
theorem dX1_far_13 : decode cX1_far 13 = .ok (.ireturn, 1) := by decide +kernel
theorem dX1_tell_0 : decode cX1_tell 0 = .ok (.aload_n 0, 1) := by decide +kernel
theorem dX1_tell_1 : decode cX1_tell 1 = .ok (.iload_n 1, 1) := by decide +kernel
theorem dX1_tell_2 : decode cX1_tell 2 = .ok (.invokevirtual 201, 3) := by decide +kernel
theorem dX1_tell_5 : decode cX1_tell 5 = .ok (.astore 4, 2) := by decide +kernel
theorem dX1_tell_7 : decode cX1_tell 7 = .ok (.aload_n 0, 1) := by decide +kernel
theorem dX1_tell_8 : decode cX1_tell 8 = .ok (.iload_n 2, 1) := by decide +kernel
theorem dX1_tell_9 : decode cX1_tell 9 = .ok (.invokevirtual 201, 3) := by decide +kernel
theorem dX1_tell_12 : decode cX1_tell 12 = .ok (.astore 4, 2) := by decide +kernel
theorem dX1_tell_14 : decode cX1_tell 14 = .ok (.iload_n 1, 1) := by decide +kernel
theorem dX1_tell_15 : decode cX1_tell 15 = .ok (.iload_n 2, 1) := by decide +kernel
theorem dX1_tell_16 : decode cX1_tell 16 = .ok (.if_icmp .eq 7, 3) := by decide +kernel
theorem dX1_tell_19 : decode cX1_tell 19 = .ok (.iconst 1, 1) := by decide +kernel
theorem dX1_tell_20 : decode cX1_tell 20 = .ok (.goto 4, 3) := by decide +kernel
theorem dX1_tell_23 : decode cX1_tell 23 = .ok (.iconst 0, 1) := by decide +kernel
theorem dX1_tell_24 : decode cX1_tell 24 = .ok (.invokestatic 143, 3) := by decide +kernel
theorem dX1_tell_27 : decode cX1_tell 27 = .ok (.aload_n 0, 1) := by decide +kernel
theorem dX1_tell_28 : decode cX1_tell 28 = .ok (.getfield 30, 3) := by decide +kernel
theorem dX1_tell_31 : decode cX1_tell 31 = .ok (.iload_n 1, 1) := by decide +kernel
theorem dX1_tell_32 : decode cX1_tell 32 = .ok (.aaload, 1) := by decide +kernel
theorem dX1_tell_33 : decode cX1_tell 33 = .ok (.iload_n 2, 1) := by decide +kernel
theorem dX1_tell_34 : decode cX1_tell 34 = .ok (.iload_n 3, 1) := by decide +kernel
theorem dX1_tell_35 : decode cX1_tell 35 = .ok (.ifCond .eq 7, 3) := by decide +kernel
theorem dX1_tell_38 : decode cX1_tell 38 = .ok (.iconst 1, 1) := by decide +kernel
theorem dX1_tell_39 : decode cX1_tell 39 = .ok (.goto 4, 3) := by decide +kernel
theorem dX1_tell_42 : decode cX1_tell 42 = .ok (.iconst 2, 1) := by decide +kernel
theorem dX1_tell_43 : decode cX1_tell 43 = .ok (.i2b, 1) := by decide +kernel
theorem dX1_tell_44 : decode cX1_tell 44 = .ok (.bastore, 1) := by decide +kernel
theorem dX1_tell_45 : decode cX1_tell 45 = .ok (.aload_n 0, 1) := by decide +kernel
theorem dX1_tell_46 : decode cX1_tell 46 = .ok (.getfield 30, 3) := by decide +kernel
theorem dX1_tell_49 : decode cX1_tell 49 = .ok (.iload_n 2, 1) := by decide +kernel
theorem dX1_tell_50 : decode cX1_tell 50 = .ok (.aaload, 1) := by decide +kernel
theorem dX1_tell_51 : decode cX1_tell 51 = .ok (.iload_n 1, 1) := by decide +kernel
theorem dX1_tell_52 : decode cX1_tell 52 = .ok (.aload_n 0, 1) := by decide +kernel
theorem dX1_tell_53 : decode cX1_tell 53 = .ok (.getfield 30, 3) := by decide +kernel
theorem dX1_tell_56 : decode cX1_tell 56 = .ok (.iload_n 1, 1) := by decide +kernel
theorem dX1_tell_57 : decode cX1_tell 57 = .ok (.aaload, 1) := by decide +kernel
theorem dX1_tell_58 : decode cX1_tell 58 = .ok (.iload_n 2, 1) := by decide +kernel
theorem dX1_tell_59 : decode cX1_tell 59 = .ok (.baload, 1) := by decide +kernel
theorem dX1_tell_60 : decode cX1_tell 60 = .ok (.bastore, 1) := by decide +kernel
theorem dX1_tell_61 : decode cX1_tell 61 = .ok (.iconst 0, 1) := by decide +kernel
theorem dX1_tell_62 : decode cX1_tell 62 = .ok (.istore 5, 2) := by decide +kernel
theorem dX1_tell_64 : decode cX1_tell 64 = .ok (.iconst 0, 1) := by decide +kernel
theorem dX1_tell_65 : decode cX1_tell 65 = .ok (.istore 6, 2) := by decide +kernel
theorem dX1_tell_67 : decode cX1_tell 67 = .ok (.iload 6, 2) := by decide +kernel
theorem dX1_tell_69 : decode cX1_tell 69 = .ok (.aload_n 0, 1) := by decide +kernel
theorem dX1_tell_70 : decode cX1_tell 70 = .ok (.getfield 122, 3) := by decide +kernel
theorem dX1_tell_73 : decode cX1_tell 73 = .ok (.if_icmp .ge 80, 3) := by decide +kernel
theorem dX1_tell_76 : decode cX1_tell 76 = .ok (.aload_n 0, 1) := by decide +kernel
theorem dX1_tell_77 : decode cX1_tell 77 = .ok (.getfield 42, 3) := by decide +kernel
theorem dX1_tell_80 : decode cX1_tell 80 = .ok (.getfield 232, 3) := by decide +kernel
theorem dX1_tell_83 : decode cX1_tell 83 = .ok (.iload 6, 2) := by decide +kernel
theorem dX1_tell_85 : decode cX1_tell 85 = .ok (.aaload, 1) := by decide +kernel
theorem dX1_tell_86 : decode cX1_tell 86 = .ok (.getfield 236, 3) := by decide +kernel
theorem dX1_tell_89 : decode cX1_tell 89 = .ok (.iconst 3, 1) := by decide +kernel
theorem dX1_tell_90 : decode cX1_tell 90 = .ok (.if_icmp .eq 6, 3) := by decide +kernel
theorem dX1_tell_93 : decode cX1_tell 93 = .ok (.goto 54, 3) := by decide +kernel
theorem dX1_tell_96 : decode cX1_tell 96 = .ok (.aload_n 0, 1) := by decide +kernel
theorem dX1_tell_97 : decode cX1_tell 97 = .ok (.getfield 42, 3) := by decide +kernel
theorem dX1_tell_100 : decode cX1_tell 100 = .ok (.getfield 232, 3) := by decide +kernel
theorem dX1_tell_103 : decode cX1_tell 103 = .ok (.iload 6, 2) := by decide +kernel
theorem dX1_tell_105 : decode cX1_tell 105 = .ok (.aaload, 1) := by decide +kernel
theorem dX1_tell_106 : decode cX1_tell 106 = .ok (.aload_n 0, 1) := by decide +kernel
theorem dX1_tell_107 : decode cX1_tell 107 = .ok (.aload_n 0, 1) := by decide +kernel
theorem dX1_tell_108 : decode cX1_tell 108 = .ok (.getfield 35, 3) := by decide +kernel
theorem dX1_tell_111 : decode cX1_tell 111 = .ok (.iload 6, 2) := by decide +kernel
theorem dX1_tell_113 : decode cX1_tell 113 = .ok (.aaload, 1) := by decide +kernel
theorem dX1_tell_114 : decode cX1_tell 114 = .ok (.invokevirtual 241, 3) := by decide +kernel
theorem dX1_tell_117 : decode cX1_tell 117 = .ok (.putfield 236, 3) := by decide +kernel
theorem dX1_tell_120 : decode cX1_tell 120 = .ok (.iload 5, 2) := by decide +kernel
theorem dX1_tell_122 : decode cX1_tell 122 = .ok (.aload_n 0, 1) := by decide +kernel
theorem dX1_tell_123 : decode cX1_tell 123 = .ok (.getfield 42, 3) := by decide +kernel
theorem dX1_tell_126 : decode cX1_tell 126 = .ok (.getfield 232, 3) := by decide +kernel
theorem dX1_tell_129 : decode cX1_tell 129 = .ok (.iload 6, 2) := by decide +kernel
theorem dX1_tell_131 : decode cX1_tell 131 = .ok (.aaload, 1) := by decide +kernel
theorem dX1_tell_132 : decode cX1_tell 132 = .ok (.getfield 236, 3) := by decide +kernel
theorem dX1_tell_135 : decode cX1_tell 135 = .ok (.iconst 3, 1) := by decide +kernel
theorem dX1_tell_136 : decode cX1_tell 136 = .ok (.if_icmp .ne 7, 3) := by decide +kernel
theorem dX1_tell_139 : decode cX1_tell 139 = .ok (.iconst 0, 1) := by decide +kernel
theorem dX1_tell_140 : decode cX1_tell 140 = .ok (.goto 4, 3) := by decide +kernel
theorem dX1_tell_143 : decode cX1_tell 143 = .ok (.iconst 1, 1) := by decide +kernel
theorem dX1_tell_144 : decode cX1_tell 144 = .ok (.iadd, 1) := by decide +kernel
theorem dX1_tell_145 : decode cX1_tell 145 = .ok (.istore 5, 2) := by decide +kernel
theorem dX1_tell_147 : decode cX1_tell 147 = .ok (.iinc 6 1, 3) := by decide +kernel
theorem dX1_tell_150 : decode cX1_tell 150 = .ok (.goto (-83), 3) := by decide +kernel
theorem dX1_tell_153 : decode cX1_tell 153 = .ok (.iload 5, 2) := by decide +kernel
theorem dX1_tell_155 : decode cX1_tell 155 = .ok (.ireturn, 1) := by decide +kernel
theorem dX1_behindCheck_0 : decode cX1_behindCheck 0 = .ok (.aload_n 0, 1) := by decide +kernel
theorem dX1_behindCheck_1 : decode cX1_behindCheck 1 = .ok (.aload_n 1, 1) := by decide +kernel
theorem dX1_behindCheck_2 : decode cX1_behindCheck 2 = .ok (.getfield 218, 3) := by decide +kernel
theorem dX1_behindCheck_5 : decode cX1_behindCheck 5 = .ok (.invokevirtual 219, 3) := by decide +kernel
theorem dX1_behindCheck_8 : decode cX1_behindCheck 8 = .ok (.istore_n 2, 1) := by decide +kernel
theorem dX1_behindCheck_9 : decode cX1_behindCheck 9 = .ok (.iload_n 2, 1) := by decide +kernel
theorem dX1_behindCheck_10 : decode cX1_behindCheck 10 = .ok (.iconst (-1), 1) := by decide +kernel
theorem dX1_behindCheck_11 : decode cX1_behindCheck 11 = .ok (.if_icmp .eq 7, 3) := by decide +kernel
theorem dX1_behindCheck_14 : decode cX1_behindCheck 14 = .ok (.iload_n 2, 1) := by decide +kernel
theorem dX1_behindCheck_15 : decode cX1_behindCheck 15 = .ok (.goto 32, 3) := by decide +kernel
theorem dX1_behindCheck_18 : decode cX1_behindCheck 18 = .ok (.aload_n 1, 1) := by decide +kernel
theorem dX1_behindCheck_19 : decode cX1_behindCheck 19 = .ok (.getfield 222, 3) := by decide +kernel
theorem dX1_behindCheck_22 : decode cX1_behindCheck 22 = .ok (.getfield 226, 3) := by decide +kernel
theorem dX1_behindCheck_25 : decode cX1_behindCheck 25 = .ok (.ifCond .ne 17, 3) := by decide +kernel
theorem dX1_behindCheck_28 : decode cX1_behindCheck 28 = .ok (.aload_n 1, 1) := by decide +kernel
theorem dX1_behindCheck_29 : decode cX1_behindCheck 29 = .ok (.getfield 222, 3) := by decide +kernel
theorem dX1_behindCheck_32 : decode cX1_behindCheck 32 = .ok (.getfield 229, 3) := by decide +kernel
theorem dX1_behindCheck_35 : decode cX1_behindCheck 35 = .ok (.aload_n 0, 1) := by decide +kernel
theorem dX1_behindCheck_36 : decode cX1_behindCheck 36 = .ok (.getfield 81, 3) := by decide +kernel
theorem dX1_behindCheck_39 : decode cX1_behindCheck 39 = .ok (.if_icmp .le 7, 3) := by decide +kernel
theorem dX1_behindCheck_42 : decode cX1_behindCheck 42 = .ok (.iconst 4, 1) := by decide +kernel
theorem dX1_behindCheck_43 : decode cX1_behindCheck 43 = .ok (.goto 4, 3) := by decide +kernel
theorem dX1_behindCheck_46 : decode cX1_behindCheck 46 = .ok (.iconst 5, 1) := by decide +kernel
theorem dX1_behindCheck_47 : decode cX1_behindCheck 47 = .ok (.ireturn, 1) := by decide +kernel
theorem dX1_face_0 : decode cX1_face 0 = .ok (.iconst (-1), 1) := by decide +kernel
theorem dX1_face_1 : decode cX1_face 1 = .ok (.istore_n 2, 1) := by decide +kernel
theorem dX1_face_2 : decode cX1_face 2 = .ok (.iconst 0, 1) := by decide +kernel
theorem dX1_face_3 : decode cX1_face 3 = .ok (.istore_n 3, 1) := by decide +kernel
theorem dX1_face_4 : decode cX1_face 4 = .ok (.iload_n 3, 1) := by decide +kernel
theorem dX1_face_5 : decode cX1_face 5 = .ok (.aload_n 0, 1) := by decide +kernel
theorem dX1_face_6 : decode cX1_face 6 = .ok (.getfield 111, 3) := by decide +kernel
theorem dX1_face_9 : decode cX1_face 9 = .ok (.if_icmp .ge 76, 3) := by decide +kernel
theorem dX1_face_12 : decode cX1_face 12 = .ok (.iload_n 2, 1) := by decide +kernel
theorem dX1_face_13 : decode cX1_face 13 = .ok (.bipush 9, 2) := by decide +kernel
theorem dX1_face_15 : decode cX1_face 15 = .ok (.if_icmp .eq 70, 3) := by decide +kernel
theorem dX1_face_18 : decode cX1_face 18 = .ok (.iload_n 3, 1) := by decide +kernel
theorem dX1_face_19 : decode cX1_face 19 = .ok (.iload_n 1, 1) := by decide +kernel
theorem dX1_face_20 : decode cX1_face 20 = .ok (.if_icmp .eq 59, 3) := by decide +kernel
theorem dX1_face_23 : decode cX1_face 23 = .ok (.aload_n 0, 1) := by decide +kernel
theorem dX1_face_24 : decode cX1_face 24 = .ok (.getfield 24, 3) := by decide +kernel
theorem dX1_face_27 : decode cX1_face 27 = .ok (.iload_n 1, 1) := by decide +kernel
theorem dX1_face_28 : decode cX1_face 28 = .ok (.aaload, 1) := by decide +kernel
theorem dX1_face_29 : decode cX1_face 29 = .ok (.aload_n 0, 1) := by decide +kernel
theorem dX1_face_30 : decode cX1_face 30 = .ok (.getfield 24, 3) := by decide +kernel
theorem dX1_face_33 : decode cX1_face 33 = .ok (.iload_n 3, 1) := by decide +kernel
theorem dX1_face_34 : decode cX1_face 34 = .ok (.aaload, 1) := by decide +kernel
theorem dX1_face_35 : decode cX1_face 35 = .ok (.invokevirtual 214, 3) := by decide +kernel
theorem dX1_face_38 : decode cX1_face 38 = .ok (.aload_n 0, 1) := by decide +kernel
theorem dX1_face_39 : decode cX1_face 39 = .ok (.getfield 78, 3) := by decide +kernel
theorem dX1_face_42 : decode cX1_face 42 = .ok (.if_icmp .le 6, 3) := by decide +kernel
theorem dX1_face_45 : decode cX1_face 45 = .ok (.goto 34, 3) := by decide +kernel
theorem dX1_face_48 : decode cX1_face 48 = .ok (.aload_n 0, 1) := by decide +kernel
theorem dX1_face_49 : decode cX1_face 49 = .ok (.getfield 30, 3) := by decide +kernel
theorem dX1_face_52 : decode cX1_face 52 = .ok (.iload_n 1, 1) := by decide +kernel
theorem dX1_face_53 : decode cX1_face 53 = .ok (.aaload, 1) := by decide +kernel
theorem dX1_face_54 : decode cX1_face 54 = .ok (.iload_n 3, 1) := by decide +kernel
theorem dX1_face_55 : decode cX1_face 55 = .ok (.baload, 1) := by decide +kernel
theorem dX1_face_56 : decode cX1_face 56 = .ok (.ifCond .ne 8, 3) := by decide +kernel
theorem dX1_face_59 : decode cX1_face 59 = .ok (.iconst 3, 1) := by decide +kernel
theorem dX1_face_60 : decode cX1_face 60 = .ok (.istore_n 2, 1) := by decide +kernel
theorem dX1_face_61 : decode cX1_face 61 = .ok (.goto 18, 3) := by decide +kernel
theorem dX1_face_64 : decode cX1_face 64 = .ok (.aload_n 0, 1) := by decide +kernel
theorem dX1_face_65 : decode cX1_face 65 = .ok (.getfield 30, 3) := by decide +kernel
theorem dX1_face_68 : decode cX1_face 68 = .ok (.iload_n 1, 1) := by decide +kernel
theorem dX1_face_69 : decode cX1_face 69 = .ok (.aaload, 1) := by decide +kernel
theorem dX1_face_70 : decode cX1_face 70 = .ok (.iload_n 3, 1) := by decide +kernel
theorem dX1_face_71 : decode cX1_face 71 = .ok (.baload, 1) := by decide +kernel
theorem dX1_face_72 : decode cX1_face 72 = .ok (.iconst 1, 1) := by decide +kernel
theorem dX1_face_73 : decode cX1_face 73 = .ok (.if_icmp .ne 6, 3) := by decide +kernel
theorem dX1_face_76 : decode cX1_face 76 = .ok (.bipush 9, 2) := by decide +kernel
theorem dX1_face_78 : decode cX1_face 78 = .ok (.istore_n 2, 1) := by decide +kernel
theorem dX1_face_79 : decode cX1_face 79 = .ok (.iinc 3 1, 3) := by decide +kernel
theorem dX1_face_82 : decode cX1_face 82 = .ok (.goto (-78), 3) := by decide +kernel
theorem dX1_face_85 : decode cX1_face 85 = .ok (.iload_n 2, 1) := by decide +kernel
theorem dX1_face_86 : decode cX1_face 86 = .ok (.ireturn, 1) := by decide +kernel
theorem dX1_judge_0 : decode cX1_judge 0 = .ok (.aload_n 0, 1) := by decide +kernel
theorem dX1_judge_1 : decode cX1_judge 1 = .ok (.iload_n 1, 1) := by decide +kernel
theorem dX1_judge_2 : decode cX1_judge 2 = .ok (.invokevirtual 201, 3) := by decide +kernel
theorem dX1_judge_5 : decode cX1_judge 5 = .ok (.astore 6, 2) := by decide +kernel
theorem dX1_judge_7 : decode cX1_judge 7 = .ok (.aload_n 0, 1) := by decide +kernel
theorem dX1_judge_8 : decode cX1_judge 8 = .ok (.iload_n 2, 1) := by decide +kernel
theorem dX1_judge_9 : decode cX1_judge 9 = .ok (.iload_n 3, 1) := by decide +kernel
theorem dX1_judge_10 : decode cX1_judge 10 = .ok (.invokevirtual 245, 3) := by decide +kernel
theorem dX1_judge_13 : decode cX1_judge 13 = .ok (.aload_n 0, 1) := by decide +kernel
theorem dX1_judge_14 : decode cX1_judge 14 = .ok (.iload_n 1, 1) := by decide +kernel
theorem dX1_judge_15 : decode cX1_judge 15 = .ok (.iload_n 2, 1) := by decide +kernel
theorem dX1_judge_16 : decode cX1_judge 16 = .ok (.iload_n 3, 1) := by decide +kernel
theorem dX1_judge_17 : decode cX1_judge 17 = .ok (.iload 4, 2) := by decide +kernel
theorem dX1_judge_19 : decode cX1_judge 19 = .ok (.invokevirtual 249, 3) := by decide +kernel
theorem dX1_judge_22 : decode cX1_judge 22 = .ok (.astore 7, 2) := by decide +kernel
theorem dX1_judge_24 : decode cX1_judge 24 = .ok (.iload 5, 2) := by decide +kernel
theorem dX1_judge_26 : decode cX1_judge 26 = .ok (.tableswitch 82 0 5 #[38, 44, 50, 56, 62, 76], 38) := by decide +kernel
theorem dX1_judge_64 : decode cX1_judge 64 = .ok (.aload 7, 2) := by decide +kernel
theorem dX1_judge_66 : decode cX1_judge 66 = .ok (.getfield 252, 3) := by decide +kernel
theorem dX1_judge_69 : decode cX1_judge 69 = .ok (.ireturn, 1) := by decide +kernel
theorem dX1_judge_70 : decode cX1_judge 70 = .ok (.aload 7, 2) := by decide +kernel
theorem dX1_judge_72 : decode cX1_judge 72 = .ok (.getfield 255, 3) := by decide +kernel
theorem dX1_judge_75 : decode cX1_judge 75 = .ok (.ireturn, 1) := by decide +kernel
theorem dX1_judge_76 : decode cX1_judge 76 = .ok (.aload 7, 2) := by decide +kernel
theorem dX1_judge_78 : decode cX1_judge 78 = .ok (.getfield 258, 3) := by decide +kernel
theorem dX1_judge_81 : decode cX1_judge 81 = .ok (.ireturn, 1) := by decide +kernel
theorem dX1_judge_82 : decode cX1_judge 82 = .ok (.aload 7, 2) := by decide +kernel
theorem dX1_judge_84 : decode cX1_judge 84 = .ok (.getfield 229, 3) := by decide +kernel
theorem dX1_judge_87 : decode cX1_judge 87 = .ok (.ireturn, 1) := by decide +kernel
theorem dX1_judge_88 : decode cX1_judge 88 = .ok (.aload 7, 2) := by decide +kernel
theorem dX1_judge_90 : decode cX1_judge 90 = .ok (.getfield 226, 3) := by decide +kernel
theorem dX1_judge_93 : decode cX1_judge 93 = .ok (.ifCond .eq 7, 3) := by decide +kernel
theorem dX1_judge_96 : decode cX1_judge 96 = .ok (.iconst 1, 1) := by decide +kernel
theorem dX1_judge_97 : decode cX1_judge 97 = .ok (.goto 4, 3) := by decide +kernel
theorem dX1_judge_100 : decode cX1_judge 100 = .ok (.iconst 0, 1) := by decide +kernel
theorem dX1_judge_101 : decode cX1_judge 101 = .ok (.ireturn, 1) := by decide +kernel
theorem dX1_judge_102 : decode cX1_judge 102 = .ok (.aload 7, 2) := by decide +kernel
theorem dX1_judge_104 : decode cX1_judge 104 = .ok (.getfield 261, 3) := by decide +kernel
theorem dX1_judge_107 : decode cX1_judge 107 = .ok (.ireturn, 1) := by decide +kernel
theorem dX1_judge_108 : decode cX1_judge 108 = .ok (.new 264, 3) := by decide +kernel
theorem dX1_judge_111 : decode cX1_judge 111 = .ok (.dup, 1) := by decide +kernel
theorem dX1_judge_112 : decode cX1_judge 112 = .ok (.invokespecial 266, 3) := by decide +kernel
theorem dX1_judge_115 : decode cX1_judge 115 = .ok (.athrow, 1) := by decide +kernel
theorem dX1_isAsked_0 : decode cX1_isAsked 0 = .ok (.iload_n 1, 1) := by decide +kernel
theorem dX1_isAsked_1 : decode cX1_isAsked 1 = .ok (.iconst 0, 1) := by decide +kernel
theorem dX1_isAsked_2 : decode cX1_isAsked 2 = .ok (.iconst 3, 1) := by decide +kernel
theorem dX1_isAsked_3 : decode cX1_isAsked 3 = .ok (.invokestatic 114, 3) := by decide +kernel
theorem dX1_isAsked_6 : decode cX1_isAsked 6 = .ok (.ifCond .eq 24, 3) := by decide +kernel
theorem dX1_isAsked_9 : decode cX1_isAsked 9 = .ok (.iload_n 2, 1) := by decide +kernel
theorem dX1_isAsked_10 : decode cX1_isAsked 10 = .ok (.aload_n 0, 1) := by decide +kernel
theorem dX1_isAsked_11 : decode cX1_isAsked 11 = .ok (.getfield 42, 3) := by decide +kernel
theorem dX1_isAsked_14 : decode cX1_isAsked 14 = .ok (.getfield 140, 3) := by decide +kernel
theorem dX1_isAsked_17 : decode cX1_isAsked 17 = .ok (.sipush 1000, 3) := by decide +kernel
theorem dX1_isAsked_20 : decode cX1_isAsked 20 = .ok (.invokestatic 114, 3) := by decide +kernel
theorem dX1_isAsked_23 : decode cX1_isAsked 23 = .ok (.ifCond .eq 7, 3) := by decide +kernel
theorem dX1_isAsked_26 : decode cX1_isAsked 26 = .ok (.iconst 1, 1) := by decide +kernel
theorem dX1_isAsked_27 : decode cX1_isAsked 27 = .ok (.goto 4, 3) := by decide +kernel
theorem dX1_isAsked_30 : decode cX1_isAsked 30 = .ok (.iconst 0, 1) := by decide +kernel
theorem dX1_isAsked_31 : decode cX1_isAsked 31 = .ok (.invokestatic 143, 3) := by decide +kernel
theorem dX1_isAsked_34 : decode cX1_isAsked 34 = .ok (.return_, 1) := by decide +kernel
theorem dX1_ruling_0 : decode cX1_ruling 0 = .ok (.aload_n 0, 1) := by decide +kernel
theorem dX1_ruling_1 : decode cX1_ruling 1 = .ok (.aload_n 0, 1) := by decide +kernel
theorem dX1_ruling_2 : decode cX1_ruling 2 = .ok (.getfield 42, 3) := by decide +kernel
theorem dX1_ruling_5 : decode cX1_ruling 5 = .ok (.getfield 140, 3) := by decide +kernel
theorem dX1_ruling_8 : decode cX1_ruling 8 = .ok (.invokevirtual 176, 3) := by decide +kernel
theorem dX1_ruling_11 : decode cX1_ruling 11 = .ok (.astore 5, 2) := by decide +kernel
theorem dX1_ruling_13 : decode cX1_ruling 13 = .ok (.aload 5, 2) := by decide +kernel
theorem dX1_ruling_15 : decode cX1_ruling 15 = .ok (.ifnonnull 11, 3) := by decide +kernel
theorem dX1_ruling_18 : decode cX1_ruling 18 = .ok (.new 180, 3) := by decide +kernel
theorem dX1_ruling_21 : decode cX1_ruling 21 = .ok (.dup, 1) := by decide +kernel
theorem dX1_ruling_22 : decode cX1_ruling 22 = .ok (.invokespecial 182, 3) := by decide +kernel
theorem dX1_ruling_25 : decode cX1_ruling 25 = .ok (.areturn, 1) := by decide +kernel
theorem dX1_ruling_26 : decode cX1_ruling 26 = .ok (.aload_n 0, 1) := by decide +kernel
theorem dX1_ruling_27 : decode cX1_ruling 27 = .ok (.getfield 24, 3) := by decide +kernel
theorem dX1_ruling_30 : decode cX1_ruling 30 = .ok (.iload_n 1, 1) := by decide +kernel
theorem dX1_ruling_31 : decode cX1_ruling 31 = .ok (.aaload, 1) := by decide +kernel
theorem dX1_ruling_32 : decode cX1_ruling 32 = .ok (.astore 6, 2) := by decide +kernel
theorem dX1_ruling_34 : decode cX1_ruling 34 = .ok (.aload_n 0, 1) := by decide +kernel
theorem dX1_ruling_35 : decode cX1_ruling 35 = .ok (.getfield 68, 3) := by decide +kernel
theorem dX1_ruling_38 : decode cX1_ruling 38 = .ok (.iconst 0, 1) := by decide +kernel
theorem dX1_ruling_39 : decode cX1_ruling 39 = .ok (.aload_n 0, 1) := by decide +kernel
theorem dX1_ruling_40 : decode cX1_ruling 40 = .ok (.getfield 42, 3) := by decide +kernel
theorem dX1_ruling_43 : decode cX1_ruling 43 = .ok (.getfield 140, 3) := by decide +kernel
theorem dX1_ruling_46 : decode cX1_ruling 46 = .ok (.aload 6, 2) := by decide +kernel
theorem dX1_ruling_48 : decode cX1_ruling 48 = .ok (.getfield 183, 3) := by decide +kernel
theorem dX1_ruling_51 : decode cX1_ruling 51 = .ok (.isub, 1) := by decide +kernel
theorem dX1_ruling_52 : decode cX1_ruling 52 = .ok (.sipush 365, 3) := by decide +kernel
theorem dX1_ruling_55 : decode cX1_ruling 55 = .ok (.idiv, 1) := by decide +kernel
theorem dX1_ruling_56 : decode cX1_ruling 56 = .ok (.iastore, 1) := by decide +kernel
theorem dX1_ruling_57 : decode cX1_ruling 57 = .ok (.aload_n 0, 1) := by decide +kernel
theorem dX1_ruling_58 : decode cX1_ruling 58 = .ok (.getfield 68, 3) := by decide +kernel
theorem dX1_ruling_61 : decode cX1_ruling 61 = .ok (.iconst 1, 1) := by decide +kernel
theorem dX1_ruling_62 : decode cX1_ruling 62 = .ok (.iload_n 3, 1) := by decide +kernel
theorem dX1_ruling_63 : decode cX1_ruling 63 = .ok (.aload_n 0, 1) := by decide +kernel
theorem dX1_ruling_64 : decode cX1_ruling 64 = .ok (.getfield 42, 3) := by decide +kernel
theorem dX1_ruling_67 : decode cX1_ruling 67 = .ok (.getfield 140, 3) := by decide +kernel
theorem dX1_ruling_70 : decode cX1_ruling 70 = .ok (.isub, 1) := by decide +kernel
theorem dX1_ruling_71 : decode cX1_ruling 71 = .ok (.iastore, 1) := by decide +kernel
theorem dX1_ruling_72 : decode cX1_ruling 72 = .ok (.aload_n 0, 1) := by decide +kernel
theorem dX1_ruling_73 : decode cX1_ruling 73 = .ok (.getfield 68, 3) := by decide +kernel
theorem dX1_ruling_76 : decode cX1_ruling 76 = .ok (.iconst 2, 1) := by decide +kernel
theorem dX1_ruling_77 : decode cX1_ruling 77 = .ok (.aload_n 0, 1) := by decide +kernel
theorem dX1_ruling_78 : decode cX1_ruling 78 = .ok (.iload_n 1, 1) := by decide +kernel
theorem dX1_ruling_79 : decode cX1_ruling 79 = .ok (.aload_n 0, 1) := by decide +kernel
theorem dX1_ruling_80 : decode cX1_ruling 80 = .ok (.getfield 42, 3) := by decide +kernel
theorem dX1_ruling_83 : decode cX1_ruling 83 = .ok (.getfield 140, 3) := by decide +kernel
theorem dX1_ruling_86 : decode cX1_ruling 86 = .ok (.invokevirtual 186, 3) := by decide +kernel
theorem dX1_ruling_89 : decode cX1_ruling 89 = .ok (.iastore, 1) := by decide +kernel
theorem dX1_ruling_90 : decode cX1_ruling 90 = .ok (.aload_n 0, 1) := by decide +kernel
theorem dX1_ruling_91 : decode cX1_ruling 91 = .ok (.getfield 68, 3) := by decide +kernel
theorem dX1_ruling_94 : decode cX1_ruling 94 = .ok (.iconst 3, 1) := by decide +kernel
theorem dX1_ruling_95 : decode cX1_ruling 95 = .ok (.aload 6, 2) := by decide +kernel
theorem dX1_ruling_97 : decode cX1_ruling 97 = .ok (.getfield 190, 3) := by decide +kernel
theorem dX1_ruling_100 : decode cX1_ruling 100 = .ok (.ifCond .eq 7, 3) := by decide +kernel
theorem dX1_ruling_103 : decode cX1_ruling 103 = .ok (.iconst 1, 1) := by decide +kernel
theorem dX1_ruling_104 : decode cX1_ruling 104 = .ok (.goto 4, 3) := by decide +kernel
theorem dX1_ruling_107 : decode cX1_ruling 107 = .ok (.iconst 0, 1) := by decide +kernel
theorem dX1_ruling_108 : decode cX1_ruling 108 = .ok (.iastore, 1) := by decide +kernel
theorem dX1_ruling_109 : decode cX1_ruling 109 = .ok (.iconst 0, 1) := by decide +kernel
theorem dX1_ruling_110 : decode cX1_ruling 110 = .ok (.istore 7, 2) := by decide +kernel
theorem dX1_ruling_112 : decode cX1_ruling 112 = .ok (.iload 7, 2) := by decide +kernel
theorem dX1_ruling_114 : decode cX1_ruling 114 = .ok (.iconst 4, 1) := by decide +kernel
theorem dX1_ruling_115 : decode cX1_ruling 115 = .ok (.if_icmp .ge 29, 3) := by decide +kernel
theorem dX1_ruling_118 : decode cX1_ruling 118 = .ok (.aload_n 0, 1) := by decide +kernel
theorem dX1_ruling_119 : decode cX1_ruling 119 = .ok (.getfield 68, 3) := by decide +kernel
theorem dX1_ruling_122 : decode cX1_ruling 122 = .ok (.iconst 4, 1) := by decide +kernel
theorem dX1_ruling_123 : decode cX1_ruling 123 = .ok (.iload 7, 2) := by decide +kernel
theorem dX1_ruling_125 : decode cX1_ruling 125 = .ok (.iadd, 1) := by decide +kernel
theorem dX1_ruling_126 : decode cX1_ruling 126 = .ok (.iload_n 2, 1) := by decide +kernel
theorem dX1_ruling_127 : decode cX1_ruling 127 = .ok (.iload 7, 2) := by decide +kernel
theorem dX1_ruling_129 : decode cX1_ruling 129 = .ok (.if_icmp .ne 7, 3) := by decide +kernel
theorem dX1_ruling_132 : decode cX1_ruling 132 = .ok (.iconst 1, 1) := by decide +kernel
theorem dX1_ruling_133 : decode cX1_ruling 133 = .ok (.goto 4, 3) := by decide +kernel
theorem dX1_ruling_136 : decode cX1_ruling 136 = .ok (.iconst 0, 1) := by decide +kernel
theorem dX1_ruling_137 : decode cX1_ruling 137 = .ok (.iastore, 1) := by decide +kernel
theorem dX1_ruling_138 : decode cX1_ruling 138 = .ok (.iinc 7 1, 3) := by decide +kernel
theorem dX1_ruling_141 : decode cX1_ruling 141 = .ok (.goto (-29), 3) := by decide +kernel
theorem dX1_ruling_144 : decode cX1_ruling 144 = .ok (.aload_n 0, 1) := by decide +kernel
theorem dX1_ruling_145 : decode cX1_ruling 145 = .ok (.getfield 68, 3) := by decide +kernel
theorem dX1_ruling_148 : decode cX1_ruling 148 = .ok (.bipush 8, 2) := by decide +kernel
theorem dX1_ruling_150 : decode cX1_ruling 150 = .ok (.iload 4, 2) := by decide +kernel
theorem dX1_ruling_152 : decode cX1_ruling 152 = .ok (.ifCond .eq 7, 3) := by decide +kernel
theorem dX1_ruling_155 : decode cX1_ruling 155 = .ok (.iconst 1, 1) := by decide +kernel
theorem dX1_ruling_156 : decode cX1_ruling 156 = .ok (.goto 4, 3) := by decide +kernel
theorem dX1_ruling_159 : decode cX1_ruling 159 = .ok (.iconst 0, 1) := by decide +kernel
theorem dX1_ruling_160 : decode cX1_ruling 160 = .ok (.iastore, 1) := by decide +kernel
theorem dX1_ruling_161 : decode cX1_ruling 161 = .ok (.aload 5, 2) := by decide +kernel
theorem dX1_ruling_163 : decode cX1_ruling 163 = .ok (.aload_n 0, 1) := by decide +kernel
theorem dX1_ruling_164 : decode cX1_ruling 164 = .ok (.getfield 68, 3) := by decide +kernel
theorem dX1_ruling_167 : decode cX1_ruling 167 = .ok (.invokevirtual 193, 3) := by decide +kernel
theorem dX1_ruling_170 : decode cX1_ruling 170 = .ok (.areturn, 1) := by decide +kernel
theorem dX1_validOf_0 : decode cX1_validOf 0 = .ok (.iconst 0, 1) := by decide +kernel
theorem dX1_validOf_1 : decode cX1_validOf 1 = .ok (.istore_n 3, 1) := by decide +kernel
theorem dX1_validOf_2 : decode cX1_validOf 2 = .ok (.iconst 0, 1) := by decide +kernel
theorem dX1_validOf_3 : decode cX1_validOf 3 = .ok (.istore 4, 2) := by decide +kernel
theorem dX1_validOf_5 : decode cX1_validOf 5 = .ok (.iload 4, 2) := by decide +kernel
theorem dX1_validOf_7 : decode cX1_validOf 7 = .ok (.aload_n 0, 1) := by decide +kernel
theorem dX1_validOf_8 : decode cX1_validOf 8 = .ok (.getfield 42, 3) := by decide +kernel
theorem dX1_validOf_11 : decode cX1_validOf 11 = .ok (.getfield 167, 3) := by decide +kernel
theorem dX1_validOf_14 : decode cX1_validOf 14 = .ok (.if_icmp .ge 45, 3) := by decide +kernel
theorem dX1_validOf_17 : decode cX1_validOf 17 = .ok (.iload_n 3, 1) := by decide +kernel
theorem dX1_validOf_18 : decode cX1_validOf 18 = .ok (.aload_n 0, 1) := by decide +kernel
theorem dX1_validOf_19 : decode cX1_validOf 19 = .ok (.getfield 51, 3) := by decide +kernel
theorem dX1_validOf_22 : decode cX1_validOf 22 = .ok (.iload 4, 2) := by decide +kernel
theorem dX1_validOf_24 : decode cX1_validOf 24 = .ok (.aaload, 1) := by decide +kernel
theorem dX1_validOf_25 : decode cX1_validOf 25 = .ok (.getfield 169, 3) := by decide +kernel
theorem dX1_validOf_28 : decode cX1_validOf 28 = .ok (.iload_n 1, 1) := by decide +kernel
theorem dX1_validOf_29 : decode cX1_validOf 29 = .ok (.if_icmp .ne 21, 3) := by decide +kernel
theorem dX1_validOf_32 : decode cX1_validOf 32 = .ok (.aload_n 0, 1) := by decide +kernel
theorem dX1_validOf_33 : decode cX1_validOf 33 = .ok (.getfield 51, 3) := by decide +kernel
theorem dX1_validOf_36 : decode cX1_validOf 36 = .ok (.iload 4, 2) := by decide +kernel
theorem dX1_validOf_38 : decode cX1_validOf 38 = .ok (.aaload, 1) := by decide +kernel
theorem dX1_validOf_39 : decode cX1_validOf 39 = .ok (.iload_n 2, 1) := by decide +kernel
theorem dX1_validOf_40 : decode cX1_validOf 40 = .ok (.invokevirtual 172, 3) := by decide +kernel
theorem dX1_validOf_43 : decode cX1_validOf 43 = .ok (.ifCond .eq 7, 3) := by decide +kernel
theorem dX1_validOf_46 : decode cX1_validOf 46 = .ok (.iconst 1, 1) := by decide +kernel
theorem dX1_validOf_47 : decode cX1_validOf 47 = .ok (.goto 4, 3) := by decide +kernel
theorem dX1_validOf_50 : decode cX1_validOf 50 = .ok (.iconst 0, 1) := by decide +kernel
theorem dX1_validOf_51 : decode cX1_validOf 51 = .ok (.iadd, 1) := by decide +kernel
theorem dX1_validOf_52 : decode cX1_validOf 52 = .ok (.istore_n 3, 1) := by decide +kernel
theorem dX1_validOf_53 : decode cX1_validOf 53 = .ok (.iinc 4 1, 3) := by decide +kernel
theorem dX1_validOf_56 : decode cX1_validOf 56 = .ok (.goto (-51), 3) := by decide +kernel
theorem dX1_validOf_59 : decode cX1_validOf 59 = .ok (.iload_n 3, 1) := by decide +kernel
theorem dX1_validOf_60 : decode cX1_validOf 60 = .ok (.ireturn, 1) := by decide +kernel
theorem dX1_ask_0 : decode cX1_ask 0 = .ok (.aload_n 0, 1) := by decide +kernel
theorem dX1_ask_1 : decode cX1_ask 1 = .ok (.iload_n 1, 1) := by decide +kernel
theorem dX1_ask_2 : decode cX1_ask 2 = .ok (.invokevirtual 201, 3) := by decide +kernel
theorem dX1_ask_5 : decode cX1_ask 5 = .ok (.astore 6, 2) := by decide +kernel
theorem dX1_ask_7 : decode cX1_ask 7 = .ok (.aload_n 0, 1) := by decide +kernel
theorem dX1_ask_8 : decode cX1_ask 8 = .ok (.iload_n 2, 1) := by decide +kernel
theorem dX1_ask_9 : decode cX1_ask 9 = .ok (.iload_n 3, 1) := by decide +kernel
theorem dX1_ask_10 : decode cX1_ask 10 = .ok (.invokevirtual 245, 3) := by decide +kernel
theorem dX1_ask_13 : decode cX1_ask 13 = .ok (.iload 4, 2) := by decide +kernel
theorem dX1_ask_15 : decode cX1_ask 15 = .ok (.invokestatic 267, 3) := by decide +kernel
theorem dX1_ask_18 : decode cX1_ask 18 = .ok (.aload_n 0, 1) := by decide +kernel
theorem dX1_ask_19 : decode cX1_ask 19 = .ok (.getfield 122, 3) := by decide +kernel
theorem dX1_ask_22 : decode cX1_ask 22 = .ok (.bipush 120, 2) := by decide +kernel
theorem dX1_ask_24 : decode cX1_ask 24 = .ok (.if_icmp .ge 7, 3) := by decide +kernel
theorem dX1_ask_27 : decode cX1_ask 27 = .ok (.iconst 1, 1) := by decide +kernel
theorem dX1_ask_28 : decode cX1_ask 28 = .ok (.goto 4, 3) := by decide +kernel
theorem dX1_ask_31 : decode cX1_ask 31 = .ok (.iconst 0, 1) := by decide +kernel
theorem dX1_ask_32 : decode cX1_ask 32 = .ok (.invokestatic 158, 3) := by decide +kernel
theorem dX1_ask_35 : decode cX1_ask 35 = .ok (.new 33, 3) := by decide +kernel
theorem dX1_ask_38 : decode cX1_ask 38 = .ok (.dup, 1) := by decide +kernel
theorem dX1_ask_39 : decode cX1_ask 39 = .ok (.aload_n 0, 1) := by decide +kernel
theorem dX1_ask_40 : decode cX1_ask 40 = .ok (.getfield 122, 3) := by decide +kernel
theorem dX1_ask_43 : decode cX1_ask 43 = .ok (.iload_n 1, 1) := by decide +kernel
theorem dX1_ask_44 : decode cX1_ask 44 = .ok (.iload_n 2, 1) := by decide +kernel
theorem dX1_ask_45 : decode cX1_ask 45 = .ok (.aload_n 0, 1) := by decide +kernel
theorem dX1_ask_46 : decode cX1_ask 46 = .ok (.getfield 42, 3) := by decide +kernel
theorem dX1_ask_49 : decode cX1_ask 49 = .ok (.getfield 140, 3) := by decide +kernel
theorem dX1_ask_52 : decode cX1_ask 52 = .ok (.iload_n 3, 1) := by decide +kernel
theorem dX1_ask_53 : decode cX1_ask 53 = .ok (.iload 5, 2) := by decide +kernel
theorem dX1_ask_55 : decode cX1_ask 55 = .ok (.aload_n 0, 1) := by decide +kernel
theorem dX1_ask_56 : decode cX1_ask 56 = .ok (.iload_n 1, 1) := by decide +kernel
theorem dX1_ask_57 : decode cX1_ask 57 = .ok (.iload_n 2, 1) := by decide +kernel
theorem dX1_ask_58 : decode cX1_ask 58 = .ok (.iload_n 3, 1) := by decide +kernel
theorem dX1_ask_59 : decode cX1_ask 59 = .ok (.iload 5, 2) := by decide +kernel
theorem dX1_ask_61 : decode cX1_ask 61 = .ok (.invokevirtual 249, 3) := by decide +kernel
theorem dX1_ask_64 : decode cX1_ask 64 = .ok (.invokespecial 270, 3) := by decide +kernel
theorem dX1_ask_67 : decode cX1_ask 67 = .ok (.astore 7, 2) := by decide +kernel
theorem dX1_ask_69 : decode cX1_ask 69 = .ok (.new 237, 3) := by decide +kernel
theorem dX1_ask_72 : decode cX1_ask 72 = .ok (.dup, 1) := by decide +kernel
theorem dX1_ask_73 : decode cX1_ask 73 = .ok (.invokespecial 273, 3) := by decide +kernel
theorem dX1_ask_76 : decode cX1_ask 76 = .ok (.astore 8, 2) := by decide +kernel
theorem dX1_ask_78 : decode cX1_ask 78 = .ok (.aload 8, 2) := by decide +kernel
theorem dX1_ask_80 : decode cX1_ask 80 = .ok (.iload 4, 2) := by decide +kernel
theorem dX1_ask_82 : decode cX1_ask 82 = .ok (.putfield 274, 3) := by decide +kernel
theorem dX1_ask_85 : decode cX1_ask 85 = .ok (.aload_n 0, 1) := by decide +kernel
theorem dX1_ask_86 : decode cX1_ask 86 = .ok (.getfield 35, 3) := by decide +kernel
theorem dX1_ask_89 : decode cX1_ask 89 = .ok (.aload_n 0, 1) := by decide +kernel
theorem dX1_ask_90 : decode cX1_ask 90 = .ok (.getfield 122, 3) := by decide +kernel
theorem dX1_ask_93 : decode cX1_ask 93 = .ok (.aload 7, 2) := by decide +kernel
theorem dX1_ask_95 : decode cX1_ask 95 = .ok (.aastore, 1) := by decide +kernel
theorem dX1_ask_96 : decode cX1_ask 96 = .ok (.aload_n 0, 1) := by decide +kernel
theorem dX1_ask_97 : decode cX1_ask 97 = .ok (.getfield 42, 3) := by decide +kernel
theorem dX1_ask_100 : decode cX1_ask 100 = .ok (.getfield 232, 3) := by decide +kernel
theorem dX1_ask_103 : decode cX1_ask 103 = .ok (.aload_n 0, 1) := by decide +kernel
theorem dX1_ask_104 : decode cX1_ask 104 = .ok (.getfield 122, 3) := by decide +kernel
theorem dX1_ask_107 : decode cX1_ask 107 = .ok (.aload 8, 2) := by decide +kernel
theorem dX1_ask_109 : decode cX1_ask 109 = .ok (.aastore, 1) := by decide +kernel
theorem dX1_ask_110 : decode cX1_ask 110 = .ok (.aload_n 0, 1) := by decide +kernel
theorem dX1_ask_111 : decode cX1_ask 111 = .ok (.dup, 1) := by decide +kernel
theorem dX1_ask_112 : decode cX1_ask 112 = .ok (.getfield 122, 3) := by decide +kernel
theorem dX1_ask_115 : decode cX1_ask 115 = .ok (.iconst 1, 1) := by decide +kernel
theorem dX1_ask_116 : decode cX1_ask 116 = .ok (.iadd, 1) := by decide +kernel
theorem dX1_ask_117 : decode cX1_ask 117 = .ok (.putfield 122, 3) := by decide +kernel
theorem dX1_ask_120 : decode cX1_ask 120 = .ok (.aload_n 0, 1) := by decide +kernel
theorem dX1_ask_121 : decode cX1_ask 121 = .ok (.dup, 1) := by decide +kernel
theorem dX1_ask_122 : decode cX1_ask 122 = .ok (.getfield 277, 3) := by decide +kernel
theorem dX1_ask_125 : decode cX1_ask 125 = .ok (.aload 7, 2) := by decide +kernel
theorem dX1_ask_127 : decode cX1_ask 127 = .ok (.getfield 222, 3) := by decide +kernel
theorem dX1_ask_130 : decode cX1_ask 130 = .ok (.getfield 255, 3) := by decide +kernel
theorem dX1_ask_133 : decode cX1_ask 133 = .ok (.iadd, 1) := by decide +kernel
theorem dX1_ask_134 : decode cX1_ask 134 = .ok (.putfield 277, 3) := by decide +kernel
theorem dX1_ask_137 : decode cX1_ask 137 = .ok (.aload 7, 2) := by decide +kernel
theorem dX1_ask_139 : decode cX1_ask 139 = .ok (.getfield 280, 3) := by decide +kernel
theorem dX1_ask_142 : decode cX1_ask 142 = .ok (.ireturn, 1) := by decide +kernel
theorem dX1_isItems_0 : decode cX1_isItems 0 = .ok (.iload_n 0, 1) := by decide +kernel
theorem dX1_isItems_1 : decode cX1_isItems 1 = .ok (.iconst 0, 1) := by decide +kernel
theorem dX1_isItems_2 : decode cX1_isItems 2 = .ok (.sipush 255, 3) := by decide +kernel
theorem dX1_isItems_5 : decode cX1_isItems 5 = .ok (.invokestatic 114, 3) := by decide +kernel
theorem dX1_isItems_8 : decode cX1_isItems 8 = .ok (.invokestatic 143, 3) := by decide +kernel
theorem dX1_isItems_11 : decode cX1_isItems 11 = .ok (.return_, 1) := by decide +kernel
theorem dX1_give_0 : decode cX1_give 0 = .ok (.aload_n 0, 1) := by decide +kernel
theorem dX1_give_1 : decode cX1_give 1 = .ok (.iload_n 1, 1) := by decide +kernel
theorem dX1_give_2 : decode cX1_give 2 = .ok (.invokevirtual 283, 3) := by decide +kernel
theorem dX1_give_5 : decode cX1_give 5 = .ok (.astore_n 3, 1) := by decide +kernel
theorem dX1_give_6 : decode cX1_give 6 = .ok (.iload_n 2, 1) := by decide +kernel
theorem dX1_give_7 : decode cX1_give 7 = .ok (.invokestatic 267, 3) := by decide +kernel
theorem dX1_give_10 : decode cX1_give 10 = .ok (.aload_n 0, 1) := by decide +kernel
theorem dX1_give_11 : decode cX1_give 11 = .ok (.getfield 42, 3) := by decide +kernel
theorem dX1_give_14 : decode cX1_give 14 = .ok (.getfield 232, 3) := by decide +kernel
theorem dX1_give_17 : decode cX1_give 17 = .ok (.iload_n 1, 1) := by decide +kernel
theorem dX1_give_18 : decode cX1_give 18 = .ok (.aaload, 1) := by decide +kernel
theorem dX1_give_19 : decode cX1_give 19 = .ok (.astore 4, 2) := by decide +kernel
theorem dX1_give_21 : decode cX1_give 21 = .ok (.aload 4, 2) := by decide +kernel
theorem dX1_give_23 : decode cX1_give 23 = .ok (.getfield 236, 3) := by decide +kernel
theorem dX1_give_26 : decode cX1_give 26 = .ok (.iconst 1, 1) := by decide +kernel
theorem dX1_give_27 : decode cX1_give 27 = .ok (.if_icmp .ne 7, 3) := by decide +kernel
theorem dX1_give_30 : decode cX1_give 30 = .ok (.iconst 1, 1) := by decide +kernel
theorem dX1_give_31 : decode cX1_give 31 = .ok (.goto 4, 3) := by decide +kernel
theorem dX1_give_34 : decode cX1_give 34 = .ok (.iconst 0, 1) := by decide +kernel
theorem dX1_give_35 : decode cX1_give 35 = .ok (.invokestatic 287, 3) := by decide +kernel
theorem dX1_give_38 : decode cX1_give 38 = .ok (.aload 4, 2) := by decide +kernel
theorem dX1_give_40 : decode cX1_give 40 = .ok (.dup, 1) := by decide +kernel
theorem dX1_give_41 : decode cX1_give 41 = .ok (.getfield 274, 3) := by decide +kernel
theorem dX1_give_44 : decode cX1_give 44 = .ok (.iload_n 2, 1) := by decide +kernel
theorem dX1_give_45 : decode cX1_give 45 = .ok (.ior, 1) := by decide +kernel
theorem dX1_give_46 : decode cX1_give 46 = .ok (.putfield 274, 3) := by decide +kernel
theorem dX1_give_49 : decode cX1_give 49 = .ok (.aload_n 3, 1) := by decide +kernel
theorem dX1_give_50 : decode cX1_give 50 = .ok (.aload 4, 2) := by decide +kernel
theorem dX1_give_52 : decode cX1_give 52 = .ok (.invokestatic 290, 3) := by decide +kernel
theorem dX1_give_55 : decode cX1_give 55 = .ok (.ifCond .ne 9, 3) := by decide +kernel
theorem dX1_give_58 : decode cX1_give 58 = .ok (.aload 4, 2) := by decide +kernel
theorem dX1_give_60 : decode cX1_give 60 = .ok (.iconst 0, 1) := by decide +kernel
theorem dX1_give_61 : decode cX1_give 61 = .ok (.putfield 236, 3) := by decide +kernel
theorem dX1_give_64 : decode cX1_give 64 = .ok (.aload_n 3, 1) := by decide +kernel
theorem dX1_give_65 : decode cX1_give 65 = .ok (.aload 4, 2) := by decide +kernel
theorem dX1_give_67 : decode cX1_give 67 = .ok (.invokestatic 290, 3) := by decide +kernel
theorem dX1_give_70 : decode cX1_give 70 = .ok (.ireturn, 1) := by decide +kernel
theorem dX1_askingAt_0 : decode cX1_askingAt 0 = .ok (.iload_n 1, 1) := by decide +kernel
theorem dX1_askingAt_1 : decode cX1_askingAt 1 = .ok (.iconst 0, 1) := by decide +kernel
theorem dX1_askingAt_2 : decode cX1_askingAt 2 = .ok (.aload_n 0, 1) := by decide +kernel
theorem dX1_askingAt_3 : decode cX1_askingAt 3 = .ok (.getfield 122, 3) := by decide +kernel
theorem dX1_askingAt_6 : decode cX1_askingAt 6 = .ok (.iconst 1, 1) := by decide +kernel
theorem dX1_askingAt_7 : decode cX1_askingAt 7 = .ok (.isub, 1) := by decide +kernel
theorem dX1_askingAt_8 : decode cX1_askingAt 8 = .ok (.invokestatic 114, 3) := by decide +kernel
theorem dX1_askingAt_11 : decode cX1_askingAt 11 = .ok (.invokestatic 118, 3) := by decide +kernel
theorem dX1_askingAt_14 : decode cX1_askingAt 14 = .ok (.aload_n 0, 1) := by decide +kernel
theorem dX1_askingAt_15 : decode cX1_askingAt 15 = .ok (.getfield 35, 3) := by decide +kernel
theorem dX1_askingAt_18 : decode cX1_askingAt 18 = .ok (.iload_n 1, 1) := by decide +kernel
theorem dX1_askingAt_19 : decode cX1_askingAt 19 = .ok (.aaload, 1) := by decide +kernel
theorem dX1_askingAt_20 : decode cX1_askingAt 20 = .ok (.areturn, 1) := by decide +kernel
theorem dX1_may_0 : decode cX1_may 0 = .ok (.iload_n 0, 1) := by decide +kernel
theorem dX1_may_1 : decode cX1_may 1 = .ok (.ifCond .ne 11, 3) := by decide +kernel
theorem dX1_may_4 : decode cX1_may 4 = .ok (.new 108, 3) := by decide +kernel
theorem dX1_may_7 : decode cX1_may 7 = .ok (.dup, 1) := by decide +kernel
theorem dX1_may_8 : decode cX1_may 8 = .ok (.invokespecial 110, 3) := by decide +kernel
theorem dX1_may_11 : decode cX1_may 11 = .ok (.athrow, 1) := by decide +kernel
theorem dX1_may_12 : decode cX1_may 12 = .ok (.return_, 1) := by decide +kernel
theorem dX1_lacks_0 : decode cX1_lacks 0 = .ok (.aload_n 0, 1) := by decide +kernel
theorem dX1_lacks_1 : decode cX1_lacks 1 = .ok (.getfield 222, 3) := by decide +kernel
theorem dX1_lacks_4 : decode cX1_lacks 4 = .ok (.getfield 252, 3) := by decide +kernel
theorem dX1_lacks_7 : decode cX1_lacks 7 = .ok (.aload_n 1, 1) := by decide +kernel
theorem dX1_lacks_8 : decode cX1_lacks 8 = .ok (.getfield 274, 3) := by decide +kernel
theorem dX1_lacks_11 : decode cX1_lacks 11 = .ok (.iconst (-1), 1) := by decide +kernel
theorem dX1_lacks_12 : decode cX1_lacks 12 = .ok (.ixor, 1) := by decide +kernel
theorem dX1_lacks_13 : decode cX1_lacks 13 = .ok (.iand, 1) := by decide +kernel
theorem dX1_lacks_14 : decode cX1_lacks 14 = .ok (.ireturn, 1) := by decide +kernel
theorem dX1_hands_0 : decode cX1_hands 0 = .ok (.iload_n 1, 1) := by decide +kernel
theorem dX1_hands_1 : decode cX1_hands 1 = .ok (.invokestatic 329, 3) := by decide +kernel
theorem dX1_hands_4 : decode cX1_hands 4 = .ok (.iload_n 2, 1) := by decide +kernel
theorem dX1_hands_5 : decode cX1_hands 5 = .ok (.iconst 0, 1) := by decide +kernel
theorem dX1_hands_6 : decode cX1_hands 6 = .ok (.bipush 30, 2) := by decide +kernel
theorem dX1_hands_8 : decode cX1_hands 8 = .ok (.invokestatic 114, 3) := by decide +kernel
theorem dX1_hands_11 : decode cX1_hands 11 = .ok (.invokestatic 143, 3) := by decide +kernel
theorem dX1_hands_14 : decode cX1_hands 14 = .ok (.aload_n 0, 1) := by decide +kernel
theorem dX1_hands_15 : decode cX1_hands 15 = .ok (.getfield 61, 3) := by decide +kernel
theorem dX1_hands_18 : decode cX1_hands 18 = .ok (.iload_n 1, 1) := by decide +kernel
theorem dX1_hands_19 : decode cX1_hands 19 = .ok (.iload_n 2, 1) := by decide +kernel
theorem dX1_hands_20 : decode cX1_hands 20 = .ok (.iastore, 1) := by decide +kernel
theorem dX1_hands_21 : decode cX1_hands 21 = .ok (.return_, 1) := by decide +kernel
theorem dX1_isDesk_0 : decode cX1_isDesk 0 = .ok (.iload_n 0, 1) := by decide +kernel
theorem dX1_isDesk_1 : decode cX1_isDesk 1 = .ok (.iconst 0, 1) := by decide +kernel
theorem dX1_isDesk_2 : decode cX1_isDesk 2 = .ok (.iconst 3, 1) := by decide +kernel
theorem dX1_isDesk_3 : decode cX1_isDesk 3 = .ok (.invokestatic 114, 3) := by decide +kernel
theorem dX1_isDesk_6 : decode cX1_isDesk 6 = .ok (.invokestatic 118, 3) := by decide +kernel
theorem dX1_isDesk_9 : decode cX1_isDesk 9 = .ok (.return_, 1) := by decide +kernel
theorem dX1_lend_0 : decode cX1_lend 0 = .ok (.iload_n 1, 1) := by decide +kernel
theorem dX1_lend_1 : decode cX1_lend 1 = .ok (.invokestatic 329, 3) := by decide +kernel
theorem dX1_lend_4 : decode cX1_lend 4 = .ok (.iload_n 2, 1) := by decide +kernel
theorem dX1_lend_5 : decode cX1_lend 5 = .ok (.iconst 1, 1) := by decide +kernel
theorem dX1_lend_6 : decode cX1_lend 6 = .ok (.bipush 30, 2) := by decide +kernel
theorem dX1_lend_8 : decode cX1_lend 8 = .ok (.invokestatic 114, 3) := by decide +kernel
theorem dX1_lend_11 : decode cX1_lend 11 = .ok (.ifCond .eq 47, 3) := by decide +kernel
theorem dX1_lend_14 : decode cX1_lend 14 = .ok (.iload_n 3, 1) := by decide +kernel
theorem dX1_lend_15 : decode cX1_lend 15 = .ok (.aload_n 0, 1) := by decide +kernel
theorem dX1_lend_16 : decode cX1_lend 16 = .ok (.getfield 42, 3) := by decide +kernel
theorem dX1_lend_19 : decode cX1_lend 19 = .ok (.getfield 140, 3) := by decide +kernel
theorem dX1_lend_22 : decode cX1_lend 22 = .ok (.sipush 1000, 3) := by decide +kernel
theorem dX1_lend_25 : decode cX1_lend 25 = .ok (.invokestatic 114, 3) := by decide +kernel
theorem dX1_lend_28 : decode cX1_lend 28 = .ok (.ifCond .eq 30, 3) := by decide +kernel
theorem dX1_lend_31 : decode cX1_lend 31 = .ok (.iload 4, 2) := by decide +kernel
theorem dX1_lend_33 : decode cX1_lend 33 = .ok (.iload_n 3, 1) := by decide +kernel
theorem dX1_lend_34 : decode cX1_lend 34 = .ok (.sipush 1000, 3) := by decide +kernel
theorem dX1_lend_37 : decode cX1_lend 37 = .ok (.invokestatic 114, 3) := by decide +kernel
theorem dX1_lend_40 : decode cX1_lend 40 = .ok (.ifCond .eq 18, 3) := by decide +kernel
theorem dX1_lend_43 : decode cX1_lend 43 = .ok (.iload 5, 2) := by decide +kernel
theorem dX1_lend_45 : decode cX1_lend 45 = .ok (.iconst 0, 1) := by decide +kernel
theorem dX1_lend_46 : decode cX1_lend 46 = .ok (.bipush 30, 2) := by decide +kernel
theorem dX1_lend_48 : decode cX1_lend 48 = .ok (.invokestatic 114, 3) := by decide +kernel
theorem dX1_lend_51 : decode cX1_lend 51 = .ok (.ifCond .eq 7, 3) := by decide +kernel
theorem dX1_lend_54 : decode cX1_lend 54 = .ok (.iconst 1, 1) := by decide +kernel
