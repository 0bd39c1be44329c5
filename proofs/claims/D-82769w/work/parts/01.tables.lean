-- ===== PART A: goes FIRST, ahead of the names: the tables' words, and 'selects' of the private methods out of them =====
/-- a private method of a class that the tables say can be made, by its rows of tables_1 -/
def lw_okq (q : MethodName × Nat) : Prop := (q.1.cls ≠ "java/lang/invoke/MethodHandle" ∧ q.1.cls ≠ "java/lang/invoke/VarHandle") ∧ Cond.instantiable q.1.cls q.2 ∈ tables_1 ∧ Cond.privateMethod q.1 ∈ tables_1 ∧ Cond.instanceMethod q.1 ∈ tables_1
set_option maxRecDepth 100000
theorem lw_t1 {w : Cond} (h : w ∈ tables_1_1) : w ∈ tables_1 := List.mem_append_left _ h
theorem lw_t2 {w : Cond} (h : w ∈ tables_1_2) : w ∈ tables_1 := List.mem_append_right _ (List.mem_append_left _ h)
theorem lw_t3 {w : Cond} (h : w ∈ tables_1_3) : w ∈ tables_1 := List.mem_append_right _ (List.mem_append_right _ (List.mem_append_left _ h))
theorem lw_t4 {w : Cond} (h : w ∈ tables_1_4) : w ∈ tables_1 := List.mem_append_right _ (List.mem_append_right _ (List.mem_append_right _ (List.mem_append_left _ h)))
theorem lw_t5 {w : Cond} (h : w ∈ tables_1_5) : w ∈ tables_1 := List.mem_append_right _ (List.mem_append_right _ (List.mem_append_right _ (List.mem_append_right _ (List.mem_append_left _ h))))
theorem lw_t6 {w : Cond} (h : w ∈ tables_1_6) : w ∈ tables_1 := List.mem_append_right _ (List.mem_append_right _ (List.mem_append_right _ (List.mem_append_right _ (List.mem_append_right _ (List.mem_append_left _ h)))))
theorem lw_t7 {w : Cond} (h : w ∈ tables_1_7) : w ∈ tables_1 := List.mem_append_right _ (List.mem_append_right _ (List.mem_append_right _ (List.mem_append_right _ (List.mem_append_right _ (List.mem_append_right _ (List.mem_append_left _ h))))))
theorem lw_t8 {w : Cond} (h : w ∈ tables_1_8) : w ∈ tables_1 := List.mem_append_right _ (List.mem_append_right _ (List.mem_append_right _ (List.mem_append_right _ (List.mem_append_right _ (List.mem_append_right _ (List.mem_append_right _ h))))))
theorem lw_p0 : lw_okq (⟨"java/lang/Throwable", "fillInStackTrace", "(I)Ljava/lang/Throwable;"⟩, 6) := ⟨⟨by decide +kernel, by decide +kernel⟩, lw_t1 (List.mem_of_getElem? (i := 117) rfl), lw_t1 (List.mem_of_getElem? (i := 115) rfl), lw_t1 (List.mem_of_getElem? (i := 116) rfl)⟩
theorem lw_p1 : lw_okq (⟨"PassportOffice", "four", "(I)V"⟩, 29) := ⟨⟨by decide +kernel, by decide +kernel⟩, lw_t1 (List.mem_of_getElem? (i := 34) rfl), lw_t2 (List.mem_of_getElem? (i := 87) rfl), lw_t2 (List.mem_of_getElem? (i := 88) rfl)⟩
theorem lw_p2 : lw_okq (⟨"PassportOffice", "lawOf", "(I)LPassportOffice$Law;"⟩, 29) := ⟨⟨by decide +kernel, by decide +kernel⟩, lw_t1 (List.mem_of_getElem? (i := 34) rfl), lw_t2 (List.mem_of_getElem? (i := 110) rfl), lw_t2 (List.mem_of_getElem? (i := 111) rfl)⟩
theorem lw_p3 : lw_okq (⟨"PassportOffice", "inState", "(II)I"⟩, 29) := ⟨⟨by decide +kernel, by decide +kernel⟩, lw_t1 (List.mem_of_getElem? (i := 34) rfl), lw_t2 (List.mem_of_getElem? (i := 114) rfl), lw_t2 (List.mem_of_getElem? (i := 115) rfl)⟩
theorem lw_p4 : lw_okq (⟨"PassportOffice", "use", "()I"⟩, 29) := ⟨⟨by decide +kernel, by decide +kernel⟩, lw_t1 (List.mem_of_getElem? (i := 34) rfl), lw_t2 (List.mem_of_getElem? (i := 128) rfl), lw_t2 (List.mem_of_getElem? (i := 129) rfl)⟩
theorem lw_p5 : lw_okq (⟨"PassportOffice$Reader", "sign", "()I"⟩, 12) := ⟨⟨by decide +kernel, by decide +kernel⟩, lw_t1 (List.mem_of_getElem? (i := 42) rfl), lw_t2 (List.mem_of_getElem? (i := 160) rfl), lw_t2 (List.mem_of_getElem? (i := 161) rfl)⟩
theorem lw_p6 : lw_okq (⟨"PassportOffice$Reader", "fail", "(I)V"⟩, 12) := ⟨⟨by decide +kernel, by decide +kernel⟩, lw_t1 (List.mem_of_getElem? (i := 42) rfl), lw_t2 (List.mem_of_getElem? (i := 164) rfl), lw_t2 (List.mem_of_getElem? (i := 165) rfl)⟩
theorem lw_p7 : lw_okq (⟨"PassportOffice$Reader", "clause", "()LPassportOffice$Clause;"⟩, 12) := ⟨⟨by decide +kernel, by decide +kernel⟩, lw_t1 (List.mem_of_getElem? (i := 42) rfl), lw_t2 (List.mem_of_getElem? (i := 168) rfl), lw_t2 (List.mem_of_getElem? (i := 169) rfl)⟩
theorem lw_p8 : lw_okq (⟨"PassportOffice$Reader", "one", "([Ljava/lang/String;)I"⟩, 12) := ⟨⟨by decide +kernel, by decide +kernel⟩, lw_t1 (List.mem_of_getElem? (i := 42) rfl), lw_t2 (List.mem_of_getElem? (i := 172) rfl), lw_t2 (List.mem_of_getElem? (i := 173) rfl)⟩
theorem lw_p9 : lw_okq (⟨"PassportOffice$Reader", "takes", "(Ljava/lang/String;)Z"⟩, 12) := ⟨⟨by decide +kernel, by decide +kernel⟩, lw_t1 (List.mem_of_getElem? (i := 42) rfl), lw_t2 (List.mem_of_getElem? (i := 176) rfl), lw_t2 (List.mem_of_getElem? (i := 177) rfl)⟩
theorem lw_p10 : lw_okq (⟨"PassportOffice$Reader", "number", "()I"⟩, 12) := ⟨⟨by decide +kernel, by decide +kernel⟩, lw_t1 (List.mem_of_getElem? (i := 42) rfl), lw_t2 (List.mem_of_getElem? (i := 228) rfl), lw_t2 (List.mem_of_getElem? (i := 229) rfl)⟩
theorem lw_p11 : lw_okq (⟨"PassportOffice$Reader", "cond", "()LPassportOffice$Cond;"⟩, 12) := ⟨⟨by decide +kernel, by decide +kernel⟩, lw_t1 (List.mem_of_getElem? (i := 42) rfl), lw_t2 (List.mem_of_getElem? (i := 234) rfl), lw_t2 (List.mem_of_getElem? (i := 235) rfl)⟩
theorem lw_p12 : lw_okq (⟨"PassportOffice$Reader", "all", "()LPassportOffice$Cond;"⟩, 12) := ⟨⟨by decide +kernel, by decide +kernel⟩, lw_t1 (List.mem_of_getElem? (i := 42) rfl), lw_t2 (List.mem_of_getElem? (i := 238) rfl), lw_t2 (List.mem_of_getElem? (i := 239) rfl)⟩
theorem lw_p13 : lw_okq (⟨"PassportOffice$Reader", "atom", "()LPassportOffice$Cond;"⟩, 12) := ⟨⟨by decide +kernel, by decide +kernel⟩, lw_t1 (List.mem_of_getElem? (i := 42) rfl), lw_t3 (List.mem_of_getElem? (i := 2) rfl), lw_t3 (List.mem_of_getElem? (i := 3) rfl)⟩
theorem lw_p14 : lw_okq (⟨"PassportOffice$Reader", "fact", "()LPassportOffice$Cond;"⟩, 12) := ⟨⟨by decide +kernel, by decide +kernel⟩, lw_t1 (List.mem_of_getElem? (i := 42) rfl), lw_t3 (List.mem_of_getElem? (i := 7) rfl), lw_t3 (List.mem_of_getElem? (i := 8) rfl)⟩
theorem lw_p15 : lw_okq (⟨"PassportOffice", "personAt", "(I)LPassportOffice$Person;"⟩, 29) := ⟨⟨by decide +kernel, by decide +kernel⟩, lw_t1 (List.mem_of_getElem? (i := 34) rfl), lw_t3 (List.mem_of_getElem? (i := 182) rfl), lw_t3 (List.mem_of_getElem? (i := 183) rfl)⟩
def lw_privs_1 : List (MethodName × Nat) := [(⟨"java/lang/Throwable", "fillInStackTrace", "(I)Ljava/lang/Throwable;"⟩, 6), (⟨"PassportOffice", "four", "(I)V"⟩, 29), (⟨"PassportOffice", "lawOf", "(I)LPassportOffice$Law;"⟩, 29), (⟨"PassportOffice", "inState", "(II)I"⟩, 29), (⟨"PassportOffice", "use", "()I"⟩, 29), (⟨"PassportOffice$Reader", "sign", "()I"⟩, 12), (⟨"PassportOffice$Reader", "fail", "(I)V"⟩, 12), (⟨"PassportOffice$Reader", "clause", "()LPassportOffice$Clause;"⟩, 12), (⟨"PassportOffice$Reader", "one", "([Ljava/lang/String;)I"⟩, 12), (⟨"PassportOffice$Reader", "takes", "(Ljava/lang/String;)Z"⟩, 12), (⟨"PassportOffice$Reader", "number", "()I"⟩, 12), (⟨"PassportOffice$Reader", "cond", "()LPassportOffice$Cond;"⟩, 12), (⟨"PassportOffice$Reader", "all", "()LPassportOffice$Cond;"⟩, 12), (⟨"PassportOffice$Reader", "atom", "()LPassportOffice$Cond;"⟩, 12), (⟨"PassportOffice$Reader", "fact", "()LPassportOffice$Cond;"⟩, 12), (⟨"PassportOffice", "personAt", "(I)LPassportOffice$Person;"⟩, 29)]
theorem lw_r1 : ∀ q ∈ lw_privs_1, lw_okq q := List.forall_mem_cons.mpr ⟨lw_p0, List.forall_mem_cons.mpr ⟨lw_p1, List.forall_mem_cons.mpr ⟨lw_p2, List.forall_mem_cons.mpr ⟨lw_p3, List.forall_mem_cons.mpr ⟨lw_p4, List.forall_mem_cons.mpr ⟨lw_p5, List.forall_mem_cons.mpr ⟨lw_p6, List.forall_mem_cons.mpr ⟨lw_p7, List.forall_mem_cons.mpr ⟨lw_p8, List.forall_mem_cons.mpr ⟨lw_p9, List.forall_mem_cons.mpr ⟨lw_p10, List.forall_mem_cons.mpr ⟨lw_p11, List.forall_mem_cons.mpr ⟨lw_p12, List.forall_mem_cons.mpr ⟨lw_p13, List.forall_mem_cons.mpr ⟨lw_p14, List.forall_mem_cons.mpr ⟨lw_p15, fun _ h => absurd h List.not_mem_nil⟩⟩⟩⟩⟩⟩⟩⟩⟩⟩⟩⟩⟩⟩⟩⟩
theorem lw_p16 : lw_okq (⟨"PassportOffice", "behindCheck", "(LPassportOffice$Asking;)I"⟩, 29) := ⟨⟨by decide +kernel, by decide +kernel⟩, lw_t1 (List.mem_of_getElem? (i := 34) rfl), lw_t4 (List.mem_of_getElem? (i := 3) rfl), lw_t4 (List.mem_of_getElem? (i := 4) rfl)⟩
theorem lw_p17 : lw_okq (⟨"PassportOffice", "face", "(I)I"⟩, 29) := ⟨⟨by decide +kernel, by decide +kernel⟩, lw_t1 (List.mem_of_getElem? (i := 34) rfl), lw_t4 (List.mem_of_getElem? (i := 7) rfl), lw_t4 (List.mem_of_getElem? (i := 8) rfl)⟩
theorem lw_p18 : lw_okq (⟨"PassportOffice", "isAsked", "(II)V"⟩, 29) := ⟨⟨by decide +kernel, by decide +kernel⟩, lw_t1 (List.mem_of_getElem? (i := 34) rfl), lw_t4 (List.mem_of_getElem? (i := 19) rfl), lw_t4 (List.mem_of_getElem? (i := 20) rfl)⟩
theorem lw_p19 : lw_okq (⟨"PassportOffice", "ruling", "(IIIZ)LPassportOffice$Ruling;"⟩, 29) := ⟨⟨by decide +kernel, by decide +kernel⟩, lw_t1 (List.mem_of_getElem? (i := 34) rfl), lw_t4 (List.mem_of_getElem? (i := 23) rfl), lw_t4 (List.mem_of_getElem? (i := 24) rfl)⟩
theorem lw_p20 : lw_okq (⟨"PassportOffice", "validOf", "(II)I"⟩, 29) := ⟨⟨by decide +kernel, by decide +kernel⟩, lw_t1 (List.mem_of_getElem? (i := 34) rfl), lw_t4 (List.mem_of_getElem? (i := 60) rfl), lw_t4 (List.mem_of_getElem? (i := 61) rfl)⟩
theorem lw_p21 : lw_okq (⟨"PassportOffice", "askingAt", "(I)LPassportOffice$Asking;"⟩, 29) := ⟨⟨by decide +kernel, by decide +kernel⟩, lw_t1 (List.mem_of_getElem? (i := 34) rfl), lw_t4 (List.mem_of_getElem? (i := 200) rfl), lw_t4 (List.mem_of_getElem? (i := 201) rfl)⟩
theorem lw_p22 : lw_okq (⟨"PassportOffice", "unitsOf", "(II)I"⟩, 29) := ⟨⟨by decide +kernel, by decide +kernel⟩, lw_t1 (List.mem_of_getElem? (i := 34) rfl), lw_t5 (List.mem_of_getElem? (i := 31) rfl), lw_t5 (List.mem_of_getElem? (i := 32) rfl)⟩
theorem lw_p23 : lw_okq (⟨"PassportOffice", "day", "(LPassportOffice$World;I)V"⟩, 29) := ⟨⟨by decide +kernel, by decide +kernel⟩, lw_t1 (List.mem_of_getElem? (i := 34) rfl), lw_t5 (List.mem_of_getElem? (i := 75) rfl), lw_t5 (List.mem_of_getElem? (i := 76) rfl)⟩
theorem lw_p24 : lw_okq (⟨"PassportOffice", "gets", "(LPassportOffice$World;I)V"⟩, 29) := ⟨⟨by decide +kernel, by decide +kernel⟩, lw_t1 (List.mem_of_getElem? (i := 34) rfl), lw_t5 (List.mem_of_getElem? (i := 79) rfl), lw_t5 (List.mem_of_getElem? (i := 80) rfl)⟩
theorem lw_p25 : lw_okq (⟨"PassportOffice", "callsOf", "(LPassportOffice$World;)I"⟩, 29) := ⟨⟨by decide +kernel, by decide +kernel⟩, lw_t1 (List.mem_of_getElem? (i := 34) rfl), lw_t5 (List.mem_of_getElem? (i := 83) rfl), lw_t5 (List.mem_of_getElem? (i := 84) rfl)⟩
theorem lw_p26 : lw_okq (⟨"PassportOffice", "work", "(LPassportOffice$World;III)I"⟩, 29) := ⟨⟨by decide +kernel, by decide +kernel⟩, lw_t1 (List.mem_of_getElem? (i := 34) rfl), lw_t5 (List.mem_of_getElem? (i := 87) rfl), lw_t5 (List.mem_of_getElem? (i := 88) rfl)⟩
theorem lw_p27 : lw_okq (⟨"PassportOffice", "line", "(LPassportOffice$World;II)I"⟩, 29) := ⟨⟨by decide +kernel, by decide +kernel⟩, lw_t1 (List.mem_of_getElem? (i := 34) rfl), lw_t5 (List.mem_of_getElem? (i := 91) rfl), lw_t5 (List.mem_of_getElem? (i := 92) rfl)⟩
theorem lw_p28 : lw_okq (⟨"PassportOffice", "isAhead", "(LPassportOffice$World;III)Z"⟩, 29) := ⟨⟨by decide +kernel, by decide +kernel⟩, lw_t1 (List.mem_of_getElem? (i := 34) rfl), lw_t5 (List.mem_of_getElem? (i := 98) rfl), lw_t5 (List.mem_of_getElem? (i := 99) rfl)⟩
theorem lw_p29 : lw_okq (⟨"PassportOffice", "costs", "(LPassportOffice$World;II)I"⟩, 29) := ⟨⟨by decide +kernel, by decide +kernel⟩, lw_t1 (List.mem_of_getElem? (i := 34) rfl), lw_t5 (List.mem_of_getElem? (i := 105) rfl), lw_t5 (List.mem_of_getElem? (i := 106) rfl)⟩
theorem lw_p30 : lw_okq (⟨"PassportOffice", "does", "(LPassportOffice$World;II)V"⟩, 29) := ⟨⟨by decide +kernel, by decide +kernel⟩, lw_t1 (List.mem_of_getElem? (i := 34) rfl), lw_t5 (List.mem_of_getElem? (i := 109) rfl), lw_t5 (List.mem_of_getElem? (i := 110) rfl)⟩
theorem lw_p31 : lw_okq (⟨"PassportOffice", "print", "(LPassportOffice$World;I)V"⟩, 29) := ⟨⟨by decide +kernel, by decide +kernel⟩, lw_t1 (List.mem_of_getElem? (i := 34) rfl), lw_t5 (List.mem_of_getElem? (i := 113) rfl), lw_t5 (List.mem_of_getElem? (i := 114) rfl)⟩
def lw_privs_2 : List (MethodName × Nat) := [(⟨"PassportOffice", "behindCheck", "(LPassportOffice$Asking;)I"⟩, 29), (⟨"PassportOffice", "face", "(I)I"⟩, 29), (⟨"PassportOffice", "isAsked", "(II)V"⟩, 29), (⟨"PassportOffice", "ruling", "(IIIZ)LPassportOffice$Ruling;"⟩, 29), (⟨"PassportOffice", "validOf", "(II)I"⟩, 29), (⟨"PassportOffice", "askingAt", "(I)LPassportOffice$Asking;"⟩, 29), (⟨"PassportOffice", "unitsOf", "(II)I"⟩, 29), (⟨"PassportOffice", "day", "(LPassportOffice$World;I)V"⟩, 29), (⟨"PassportOffice", "gets", "(LPassportOffice$World;I)V"⟩, 29), (⟨"PassportOffice", "callsOf", "(LPassportOffice$World;)I"⟩, 29), (⟨"PassportOffice", "work", "(LPassportOffice$World;III)I"⟩, 29), (⟨"PassportOffice", "line", "(LPassportOffice$World;II)I"⟩, 29), (⟨"PassportOffice", "isAhead", "(LPassportOffice$World;III)Z"⟩, 29), (⟨"PassportOffice", "costs", "(LPassportOffice$World;II)I"⟩, 29), (⟨"PassportOffice", "does", "(LPassportOffice$World;II)V"⟩, 29), (⟨"PassportOffice", "print", "(LPassportOffice$World;I)V"⟩, 29)]
theorem lw_r2 : ∀ q ∈ lw_privs_2, lw_okq q := List.forall_mem_cons.mpr ⟨lw_p16, List.forall_mem_cons.mpr ⟨lw_p17, List.forall_mem_cons.mpr ⟨lw_p18, List.forall_mem_cons.mpr ⟨lw_p19, List.forall_mem_cons.mpr ⟨lw_p20, List.forall_mem_cons.mpr ⟨lw_p21, List.forall_mem_cons.mpr ⟨lw_p22, List.forall_mem_cons.mpr ⟨lw_p23, List.forall_mem_cons.mpr ⟨lw_p24, List.forall_mem_cons.mpr ⟨lw_p25, List.forall_mem_cons.mpr ⟨lw_p26, List.forall_mem_cons.mpr ⟨lw_p27, List.forall_mem_cons.mpr ⟨lw_p28, List.forall_mem_cons.mpr ⟨lw_p29, List.forall_mem_cons.mpr ⟨lw_p30, List.forall_mem_cons.mpr ⟨lw_p31, fun _ h => absurd h List.not_mem_nil⟩⟩⟩⟩⟩⟩⟩⟩⟩⟩⟩⟩⟩⟩⟩⟩
theorem lw_p32 : lw_okq (⟨"PassportOffice", "isGotAhead", "(II)Z"⟩, 29) := ⟨⟨by decide +kernel, by decide +kernel⟩, lw_t1 (List.mem_of_getElem? (i := 34) rfl), lw_t5 (List.mem_of_getElem? (i := 219) rfl), lw_t5 (List.mem_of_getElem? (i := 220) rfl)⟩
theorem lw_p33 : lw_okq (⟨"PassportOfficeModel", "uses", "()V"⟩, 83) := ⟨⟨by decide +kernel, by decide +kernel⟩, lw_t5 (List.mem_of_getElem? (i := 223) rfl), lw_t7 (List.mem_of_getElem? (i := 20) rfl), lw_t7 (List.mem_of_getElem? (i := 21) rfl)⟩
theorem lw_p34 : lw_okq (⟨"PassportOfficeModel", "throwsIf", "(ZI)Z"⟩, 83) := ⟨⟨by decide +kernel, by decide +kernel⟩, lw_t5 (List.mem_of_getElem? (i := 223) rfl), lw_t7 (List.mem_of_getElem? (i := 27) rfl), lw_t7 (List.mem_of_getElem? (i := 28) rfl)⟩
theorem lw_p35 : lw_okq (⟨"PassportOfficeModel", "readLaw", "()I"⟩, 83) := ⟨⟨by decide +kernel, by decide +kernel⟩, lw_t5 (List.mem_of_getElem? (i := 223) rfl), lw_t7 (List.mem_of_getElem? (i := 31) rfl), lw_t7 (List.mem_of_getElem? (i := 32) rfl)⟩
theorem lw_p36 : lw_okq (⟨"PassportOfficeModel", "blanksBetween", "()V"⟩, 83) := ⟨⟨by decide +kernel, by decide +kernel⟩, lw_t5 (List.mem_of_getElem? (i := 223) rfl), lw_t7 (List.mem_of_getElem? (i := 35) rfl), lw_t7 (List.mem_of_getElem? (i := 36) rfl)⟩
theorem lw_p37 : lw_okq (⟨"PassportOfficeModel", "isAt", "(II)Z"⟩, 83) := ⟨⟨by decide +kernel, by decide +kernel⟩, lw_t5 (List.mem_of_getElem? (i := 223) rfl), lw_t7 (List.mem_of_getElem? (i := 39) rfl), lw_t7 (List.mem_of_getElem? (i := 40) rfl)⟩
theorem lw_p38 : lw_okq (⟨"PassportOfficeModel", "readClause", "(I)Z"⟩, 83) := ⟨⟨by decide +kernel, by decide +kernel⟩, lw_t5 (List.mem_of_getElem? (i := 223) rfl), lw_t7 (List.mem_of_getElem? (i := 43) rfl), lw_t7 (List.mem_of_getElem? (i := 44) rfl)⟩
theorem lw_p39 : lw_okq (⟨"PassportOfficeModel", "word", "()V"⟩, 83) := ⟨⟨by decide +kernel, by decide +kernel⟩, lw_t5 (List.mem_of_getElem? (i := 223) rfl), lw_t7 (List.mem_of_getElem? (i := 47) rfl), lw_t7 (List.mem_of_getElem? (i := 48) rfl)⟩
theorem lw_p40 : lw_okq (⟨"PassportOfficeModel", "isWord", "(Ljava/lang/String;)Z"⟩, 83) := ⟨⟨by decide +kernel, by decide +kernel⟩, lw_t5 (List.mem_of_getElem? (i := 223) rfl), lw_t7 (List.mem_of_getElem? (i := 52) rfl), lw_t7 (List.mem_of_getElem? (i := 53) rfl)⟩
theorem lw_p41 : lw_okq (⟨"PassportOfficeModel", "number", "()I"⟩, 83) := ⟨⟨by decide +kernel, by decide +kernel⟩, lw_t5 (List.mem_of_getElem? (i := 223) rfl), lw_t7 (List.mem_of_getElem? (i := 74) rfl), lw_t7 (List.mem_of_getElem? (i := 75) rfl)⟩
theorem lw_p42 : lw_okq (⟨"PassportOfficeModel", "passes", "(Ljava/lang/String;)Z"⟩, 83) := ⟨⟨by decide +kernel, by decide +kernel⟩, lw_t5 (List.mem_of_getElem? (i := 223) rfl), lw_t7 (List.mem_of_getElem? (i := 79) rfl), lw_t7 (List.mem_of_getElem? (i := 80) rfl)⟩
theorem lw_p43 : lw_okq (⟨"PassportOfficeModel", "readCond", "()Z"⟩, 83) := ⟨⟨by decide +kernel, by decide +kernel⟩, lw_t5 (List.mem_of_getElem? (i := 223) rfl), lw_t7 (List.mem_of_getElem? (i := 83) rfl), lw_t7 (List.mem_of_getElem? (i := 84) rfl)⟩
theorem lw_p44 : lw_okq (⟨"PassportOfficeModel", "readAllOf", "()Z"⟩, 83) := ⟨⟨by decide +kernel, by decide +kernel⟩, lw_t5 (List.mem_of_getElem? (i := 223) rfl), lw_t7 (List.mem_of_getElem? (i := 87) rfl), lw_t7 (List.mem_of_getElem? (i := 88) rfl)⟩
theorem lw_p45 : lw_okq (⟨"PassportOfficeModel", "readAtom", "()Z"⟩, 83) := ⟨⟨by decide +kernel, by decide +kernel⟩, lw_t5 (List.mem_of_getElem? (i := 223) rfl), lw_t7 (List.mem_of_getElem? (i := 91) rfl), lw_t7 (List.mem_of_getElem? (i := 92) rfl)⟩
theorem lw_p46 : lw_okq (⟨"PassportOfficeModel", "passesSign", "(I)Z"⟩, 83) := ⟨⟨by decide +kernel, by decide +kernel⟩, lw_t5 (List.mem_of_getElem? (i := 223) rfl), lw_t7 (List.mem_of_getElem? (i := 95) rfl), lw_t7 (List.mem_of_getElem? (i := 96) rfl)⟩
theorem lw_p47 : lw_okq (⟨"PassportOfficeModel", "adds", "(III)V"⟩, 83) := ⟨⟨by decide +kernel, by decide +kernel⟩, lw_t5 (List.mem_of_getElem? (i := 223) rfl), lw_t7 (List.mem_of_getElem? (i := 100) rfl), lw_t7 (List.mem_of_getElem? (i := 101) rfl)⟩
def lw_privs_3 : List (MethodName × Nat) := [(⟨"PassportOffice", "isGotAhead", "(II)Z"⟩, 29), (⟨"PassportOfficeModel", "uses", "()V"⟩, 83), (⟨"PassportOfficeModel", "throwsIf", "(ZI)Z"⟩, 83), (⟨"PassportOfficeModel", "readLaw", "()I"⟩, 83), (⟨"PassportOfficeModel", "blanksBetween", "()V"⟩, 83), (⟨"PassportOfficeModel", "isAt", "(II)Z"⟩, 83), (⟨"PassportOfficeModel", "readClause", "(I)Z"⟩, 83), (⟨"PassportOfficeModel", "word", "()V"⟩, 83), (⟨"PassportOfficeModel", "isWord", "(Ljava/lang/String;)Z"⟩, 83), (⟨"PassportOfficeModel", "number", "()I"⟩, 83), (⟨"PassportOfficeModel", "passes", "(Ljava/lang/String;)Z"⟩, 83), (⟨"PassportOfficeModel", "readCond", "()Z"⟩, 83), (⟨"PassportOfficeModel", "readAllOf", "()Z"⟩, 83), (⟨"PassportOfficeModel", "readAtom", "()Z"⟩, 83), (⟨"PassportOfficeModel", "passesSign", "(I)Z"⟩, 83), (⟨"PassportOfficeModel", "adds", "(III)V"⟩, 83)]
theorem lw_r3 : ∀ q ∈ lw_privs_3, lw_okq q := List.forall_mem_cons.mpr ⟨lw_p32, List.forall_mem_cons.mpr ⟨lw_p33, List.forall_mem_cons.mpr ⟨lw_p34, List.forall_mem_cons.mpr ⟨lw_p35, List.forall_mem_cons.mpr ⟨lw_p36, List.forall_mem_cons.mpr ⟨lw_p37, List.forall_mem_cons.mpr ⟨lw_p38, List.forall_mem_cons.mpr ⟨lw_p39, List.forall_mem_cons.mpr ⟨lw_p40, List.forall_mem_cons.mpr ⟨lw_p41, List.forall_mem_cons.mpr ⟨lw_p42, List.forall_mem_cons.mpr ⟨lw_p43, List.forall_mem_cons.mpr ⟨lw_p44, List.forall_mem_cons.mpr ⟨lw_p45, List.forall_mem_cons.mpr ⟨lw_p46, List.forall_mem_cons.mpr ⟨lw_p47, fun _ h => absurd h List.not_mem_nil⟩⟩⟩⟩⟩⟩⟩⟩⟩⟩⟩⟩⟩⟩⟩⟩
theorem lw_p48 : lw_okq (⟨"PassportOfficeModel", "nobody", "(I)Z"⟩, 83) := ⟨⟨by decide +kernel, by decide +kernel⟩, lw_t5 (List.mem_of_getElem? (i := 223) rfl), lw_t7 (List.mem_of_getElem? (i := 130) rfl), lw_t7 (List.mem_of_getElem? (i := 131) rfl)⟩
theorem lw_p49 : lw_okq (⟨"PassportOfficeModel", "readName", "()I"⟩, 83) := ⟨⟨by decide +kernel, by decide +kernel⟩, lw_t5 (List.mem_of_getElem? (i := 223) rfl), lw_t7 (List.mem_of_getElem? (i := 134) rfl), lw_t7 (List.mem_of_getElem? (i := 135) rfl)⟩
theorem lw_p50 : lw_okq (⟨"PassportOfficeModel", "farOf", "(II)I"⟩, 83) := ⟨⟨by decide +kernel, by decide +kernel⟩, lw_t5 (List.mem_of_getElem? (i := 223) rfl), lw_t7 (List.mem_of_getElem? (i := 156) rfl), lw_t7 (List.mem_of_getElem? (i := 157) rfl)⟩
theorem lw_p51 : lw_okq (⟨"PassportOfficeModel", "unitsOf", "(II)I"⟩, 83) := ⟨⟨by decide +kernel, by decide +kernel⟩, lw_t5 (List.mem_of_getElem? (i := 223) rfl), lw_t7 (List.mem_of_getElem? (i := 175) rfl), lw_t7 (List.mem_of_getElem? (i := 176) rfl)⟩
theorem lw_p52 : lw_okq (⟨"PassportOfficeModel", "noAsk", "(II)Z"⟩, 83) := ⟨⟨by decide +kernel, by decide +kernel⟩, lw_t5 (List.mem_of_getElem? (i := 223) rfl), lw_t7 (List.mem_of_getElem? (i := 200) rfl), lw_t7 (List.mem_of_getElem? (i := 201) rfl)⟩
theorem lw_p53 : lw_okq (⟨"PassportOfficeModel", "judges", "(IIIZ)V"⟩, 83) := ⟨⟨by decide +kernel, by decide +kernel⟩, lw_t5 (List.mem_of_getElem? (i := 223) rfl), lw_t7 (List.mem_of_getElem? (i := 204) rfl), lw_t7 (List.mem_of_getElem? (i := 205) rfl)⟩
theorem lw_p54 : lw_okq (⟨"PassportOfficeModel", "validOf", "(II)I"⟩, 83) := ⟨⟨by decide +kernel, by decide +kernel⟩, lw_t5 (List.mem_of_getElem? (i := 223) rfl), lw_t7 (List.mem_of_getElem? (i := 211) rfl), lw_t7 (List.mem_of_getElem? (i := 212) rfl)⟩
theorem lw_p55 : lw_okq (⟨"PassportOfficeModel", "lawOf", "(I)I"⟩, 83) := ⟨⟨by decide +kernel, by decide +kernel⟩, lw_t5 (List.mem_of_getElem? (i := 223) rfl), lw_t7 (List.mem_of_getElem? (i := 215) rfl), lw_t7 (List.mem_of_getElem? (i := 216) rfl)⟩
theorem lw_p56 : lw_okq (⟨"PassportOfficeModel", "holds", "(III)Z"⟩, 83) := ⟨⟨by decide +kernel, by decide +kernel⟩, lw_t5 (List.mem_of_getElem? (i := 223) rfl), lw_t7 (List.mem_of_getElem? (i := 219) rfl), lw_t7 (List.mem_of_getElem? (i := 220) rfl)⟩
theorem lw_p57 : lw_okq (⟨"PassportOfficeModel", "sets", "(III)V"⟩, 83) := ⟨⟨by decide +kernel, by decide +kernel⟩, lw_t5 (List.mem_of_getElem? (i := 223) rfl), lw_t7 (List.mem_of_getElem? (i := 228) rfl), lw_t7 (List.mem_of_getElem? (i := 229) rfl)⟩
theorem lw_p58 : lw_okq (⟨"PassportOfficeModel", "noAsking", "(I)Z"⟩, 83) := ⟨⟨by decide +kernel, by decide +kernel⟩, lw_t5 (List.mem_of_getElem? (i := 223) rfl), lw_t7 (List.mem_of_getElem? (i := 236) rfl), lw_t7 (List.mem_of_getElem? (i := 237) rfl)⟩
theorem lw_p59 : lw_okq (⟨"PassportOfficeModel", "now", "(II)I"⟩, 83) := ⟨⟨by decide +kernel, by decide +kernel⟩, lw_t5 (List.mem_of_getElem? (i := 223) rfl), lw_t8 (List.mem_of_getElem? (i := 0) rfl), lw_t8 (List.mem_of_getElem? (i := 1) rfl)⟩
theorem lw_p60 : lw_okq (⟨"PassportOfficeModel", "lacksOf", "(I)I"⟩, 83) := ⟨⟨by decide +kernel, by decide +kernel⟩, lw_t5 (List.mem_of_getElem? (i := 223) rfl), lw_t8 (List.mem_of_getElem? (i := 4) rfl), lw_t8 (List.mem_of_getElem? (i := 5) rfl)⟩
theorem lw_p61 : lw_okq (⟨"PassportOfficeModel", "checks", "(I)V"⟩, 83) := ⟨⟨by decide +kernel, by decide +kernel⟩, lw_t5 (List.mem_of_getElem? (i := 223) rfl), lw_t8 (List.mem_of_getElem? (i := 12) rfl), lw_t8 (List.mem_of_getElem? (i := 13) rfl)⟩
theorem lw_p62 : lw_okq (⟨"PassportOfficeModel", "day", "(I)V"⟩, 83) := ⟨⟨by decide +kernel, by decide +kernel⟩, lw_t5 (List.mem_of_getElem? (i := 223) rfl), lw_t8 (List.mem_of_getElem? (i := 20) rfl), lw_t8 (List.mem_of_getElem? (i := 21) rfl)⟩
theorem lw_p63 : lw_okq (⟨"PassportOfficeModel", "gets", "(I)V"⟩, 83) := ⟨⟨by decide +kernel, by decide +kernel⟩, lw_t5 (List.mem_of_getElem? (i := 223) rfl), lw_t8 (List.mem_of_getElem? (i := 24) rfl), lw_t8 (List.mem_of_getElem? (i := 25) rfl)⟩
def lw_privs_4 : List (MethodName × Nat) := [(⟨"PassportOfficeModel", "nobody", "(I)Z"⟩, 83), (⟨"PassportOfficeModel", "readName", "()I"⟩, 83), (⟨"PassportOfficeModel", "farOf", "(II)I"⟩, 83), (⟨"PassportOfficeModel", "unitsOf", "(II)I"⟩, 83), (⟨"PassportOfficeModel", "noAsk", "(II)Z"⟩, 83), (⟨"PassportOfficeModel", "judges", "(IIIZ)V"⟩, 83), (⟨"PassportOfficeModel", "validOf", "(II)I"⟩, 83), (⟨"PassportOfficeModel", "lawOf", "(I)I"⟩, 83), (⟨"PassportOfficeModel", "holds", "(III)Z"⟩, 83), (⟨"PassportOfficeModel", "sets", "(III)V"⟩, 83), (⟨"PassportOfficeModel", "noAsking", "(I)Z"⟩, 83), (⟨"PassportOfficeModel", "now", "(II)I"⟩, 83), (⟨"PassportOfficeModel", "lacksOf", "(I)I"⟩, 83), (⟨"PassportOfficeModel", "checks", "(I)V"⟩, 83), (⟨"PassportOfficeModel", "day", "(I)V"⟩, 83), (⟨"PassportOfficeModel", "gets", "(I)V"⟩, 83)]
theorem lw_r4 : ∀ q ∈ lw_privs_4, lw_okq q := List.forall_mem_cons.mpr ⟨lw_p48, List.forall_mem_cons.mpr ⟨lw_p49, List.forall_mem_cons.mpr ⟨lw_p50, List.forall_mem_cons.mpr ⟨lw_p51, List.forall_mem_cons.mpr ⟨lw_p52, List.forall_mem_cons.mpr ⟨lw_p53, List.forall_mem_cons.mpr ⟨lw_p54, List.forall_mem_cons.mpr ⟨lw_p55, List.forall_mem_cons.mpr ⟨lw_p56, List.forall_mem_cons.mpr ⟨lw_p57, List.forall_mem_cons.mpr ⟨lw_p58, List.forall_mem_cons.mpr ⟨lw_p59, List.forall_mem_cons.mpr ⟨lw_p60, List.forall_mem_cons.mpr ⟨lw_p61, List.forall_mem_cons.mpr ⟨lw_p62, List.forall_mem_cons.mpr ⟨lw_p63, fun _ h => absurd h List.not_mem_nil⟩⟩⟩⟩⟩⟩⟩⟩⟩⟩⟩⟩⟩⟩⟩⟩
theorem lw_p64 : lw_okq (⟨"PassportOfficeModel", "works", "(II)V"⟩, 83) := ⟨⟨by decide +kernel, by decide +kernel⟩, lw_t5 (List.mem_of_getElem? (i := 223) rfl), lw_t8 (List.mem_of_getElem? (i := 28) rfl), lw_t8 (List.mem_of_getElem? (i := 29) rfl)⟩
theorem lw_p65 : lw_okq (⟨"PassportOfficeModel", "lines", "(II)V"⟩, 83) := ⟨⟨by decide +kernel, by decide +kernel⟩, lw_t5 (List.mem_of_getElem? (i := 223) rfl), lw_t8 (List.mem_of_getElem? (i := 32) rfl), lw_t8 (List.mem_of_getElem? (i := 33) rfl)⟩
theorem lw_p66 : lw_okq (⟨"PassportOfficeModel", "isAhead", "(III)Z"⟩, 83) := ⟨⟨by decide +kernel, by decide +kernel⟩, lw_t5 (List.mem_of_getElem? (i := 223) rfl), lw_t8 (List.mem_of_getElem? (i := 39) rfl), lw_t8 (List.mem_of_getElem? (i := 40) rfl)⟩
theorem lw_p67 : lw_okq (⟨"PassportOfficeModel", "hasTicket", "(I)Z"⟩, 83) := ⟨⟨by decide +kernel, by decide +kernel⟩, lw_t5 (List.mem_of_getElem? (i := 223) rfl), lw_t8 (List.mem_of_getElem? (i := 43) rfl), lw_t8 (List.mem_of_getElem? (i := 44) rfl)⟩
theorem lw_p68 : lw_okq (⟨"PassportOfficeModel", "takes", "(II)I"⟩, 83) := ⟨⟨by decide +kernel, by decide +kernel⟩, lw_t5 (List.mem_of_getElem? (i := 223) rfl), lw_t8 (List.mem_of_getElem? (i := 47) rfl), lw_t8 (List.mem_of_getElem? (i := 48) rfl)⟩
theorem lw_p69 : lw_okq (⟨"PassportOfficeModel", "canPrint", "()Z"⟩, 83) := ⟨⟨by decide +kernel, by decide +kernel⟩, lw_t5 (List.mem_of_getElem? (i := 223) rfl), lw_t8 (List.mem_of_getElem? (i := 51) rfl), lw_t8 (List.mem_of_getElem? (i := 52) rfl)⟩
theorem lw_p70 : lw_okq (⟨"PassportOfficeModel", "does", "(II)V"⟩, 83) := ⟨⟨by decide +kernel, by decide +kernel⟩, lw_t5 (List.mem_of_getElem? (i := 223) rfl), lw_t8 (List.mem_of_getElem? (i := 55) rfl), lw_t8 (List.mem_of_getElem? (i := 56) rfl)⟩
theorem lw_p71 : lw_okq (⟨"PassportOfficeModel", "prints", "(I)V"⟩, 83) := ⟨⟨by decide +kernel, by decide +kernel⟩, lw_t5 (List.mem_of_getElem? (i := 223) rfl), lw_t8 (List.mem_of_getElem? (i := 59) rfl), lw_t8 (List.mem_of_getElem? (i := 60) rfl)⟩
theorem lw_p72 : lw_okq (⟨"PassportOfficeModel", "inState", "(II)I"⟩, 83) := ⟨⟨by decide +kernel, by decide +kernel⟩, lw_t5 (List.mem_of_getElem? (i := 223) rfl), lw_t8 (List.mem_of_getElem? (i := 111) rfl), lw_t8 (List.mem_of_getElem? (i := 112) rfl)⟩
def lw_privs_5 : List (MethodName × Nat) := [(⟨"PassportOfficeModel", "works", "(II)V"⟩, 83), (⟨"PassportOfficeModel", "lines", "(II)V"⟩, 83), (⟨"PassportOfficeModel", "isAhead", "(III)Z"⟩, 83), (⟨"PassportOfficeModel", "hasTicket", "(I)Z"⟩, 83), (⟨"PassportOfficeModel", "takes", "(II)I"⟩, 83), (⟨"PassportOfficeModel", "canPrint", "()Z"⟩, 83), (⟨"PassportOfficeModel", "does", "(II)V"⟩, 83), (⟨"PassportOfficeModel", "prints", "(I)V"⟩, 83), (⟨"PassportOfficeModel", "inState", "(II)I"⟩, 83)]
theorem lw_r5 : ∀ q ∈ lw_privs_5, lw_okq q := List.forall_mem_cons.mpr ⟨lw_p64, List.forall_mem_cons.mpr ⟨lw_p65, List.forall_mem_cons.mpr ⟨lw_p66, List.forall_mem_cons.mpr ⟨lw_p67, List.forall_mem_cons.mpr ⟨lw_p68, List.forall_mem_cons.mpr ⟨lw_p69, List.forall_mem_cons.mpr ⟨lw_p70, List.forall_mem_cons.mpr ⟨lw_p71, List.forall_mem_cons.mpr ⟨lw_p72, fun _ h => absurd h List.not_mem_nil⟩⟩⟩⟩⟩⟩⟩⟩⟩
def lw_privs : List (MethodName × Nat) := lw_privs_1 ++ (lw_privs_2 ++ (lw_privs_3 ++ (lw_privs_4 ++ (lw_privs_5))))
def lw_tbl : List Cond := k2_sels lw_privs ++ tables_1
theorem lw_privs_ok : ∀ q ∈ lw_privs, lw_okq q := by
  show ∀ q ∈ lw_privs_1 ++ (lw_privs_2 ++ (lw_privs_3 ++ (lw_privs_4 ++ (lw_privs_5)))), lw_okq q
  exact List.forall_mem_append.mpr ⟨lw_r1, List.forall_mem_append.mpr ⟨lw_r2, List.forall_mem_append.mpr ⟨lw_r3, List.forall_mem_append.mpr ⟨lw_r4, lw_r5⟩⟩⟩⟩
-- ===== ONE list of words for every method: the tables' words that hold all through a run =====
def lw_all : List Cond := lw_tbl.filter goodWord
/-- a word of the tables by its place: claim/WORDS.tsv -/
theorem lw_w {w : Cond} (i : Nat) (h : lw_tbl[i]? = some w) (g : goodWord w = true) : w ∈ lw_all := List.mem_filter.mpr ⟨List.mem_of_getElem? h, g⟩
theorem lw_all_tbl {w : Cond} (h : w ∈ lw_all) : w ∈ lw_tbl := (List.mem_filter.mp h).1
theorem lw_self : GoodIn lw_all lw_all := fun w h => ⟨h, good_of_word (List.mem_filter.mp h).2⟩
/-- a class's field words, by their places -/
theorem lw_in (ws : List Cond) (ps : List Nat) (hp : ws = ps.filterMap (fun i => lw_tbl[i]?)) (hg : ws.all goodWord = true) : ∀ w ∈ ws, w ∈ lw_all := by
  intro w h
  have h1 := List.all_eq_true.mp hg w h
  rw [hp] at h
  obtain ⟨i, -, hi⟩ := List.mem_filterMap.mp h
  exact lw_w i hi h1
/-- the words of a contract for the method y with code b, L locals, answer r -/
abbrev ws_ (y : MethodName) (b : ByteArray) (L : Nat) (r : Option FieldType) : List Cond := Cond.code y b L r :: lw_all
theorem lw_meth {y : MethodName} {b : ByteArray} {L : Nat} {r : Option FieldType} (h : Cond.code y b L r ∈ lw_all) : GoodIn lw_all (ws_ y b L r) := by
  intro w hw
  rcases List.mem_cons.mp hw with e | e
  · rw [e]
    exact lw_self _ h
  · exact lw_self _ e
theorem lw_app {a c : List Cond} (ha : ∀ w ∈ a, w ∈ lw_all) (hc : GoodIn lw_all c) : GoodIn lw_all (a ++ c) := by
  intro w hw
  rcases List.mem_append.mp hw with e | e
  · exact lw_self w (ha w e)
  · exact hc w e
/-- what a call through an object asks: cwV n hts (lw_V ..) -/
theorem lw_V {own : String} {idx : Nat} {C : String} {y : MethodName} {b : ByteArray} {L : Nat} {r : Option FieldType} (h1 : Cond.methodLink own idx y ∈ lw_all) (h2 : Cond.instanceMethod y ∈ lw_all) (h3 : Cond.selects C y y ∈ lw_all) (h4 : Cond.initialized C ∈ lw_all) (h5 : Cond.code y b L r ∈ lw_all) : GoodIn lw_all (wsV own idx C y (ws_ y b L r)) := by
  refine lw_app ?_ (lw_meth h5)
  intro w hw
  simp only [List.mem_cons, List.not_mem_nil, or_false] at hw
  rcases hw with e | e | e | e
  · rw [e]; exact h1
  · rw [e]; exact h2
  · rw [e]; exact h3
  · rw [e]; exact h4
/-- what a static call asks: va_cwS n hts (lw_S ..) -/
theorem lw_S {own : String} {idx : Nat} {y : MethodName} {b : ByteArray} {L : Nat} {r : Option FieldType} (h1 : Cond.methodLink own idx y ∈ lw_all) (h2 : Cond.static y ∈ lw_all) (h3 : Cond.initialized y.cls ∈ lw_all) (h4 : Cond.code y b L r ∈ lw_all) : GoodIn lw_all (va_wsS own idx y (ws_ y b L r)) := by
  refine lw_app ?_ (lw_meth h4)
  intro w hw
  simp only [List.mem_cons, List.not_mem_nil, or_false] at hw
  rcases hw with e | e | e
  · rw [e]; exact h1
  · rw [e]; exact h2
  · rw [e]; exact h3
/-- the words of a contract for a method WITH HANDLERS (hh: its table) -/
abbrev wsW_ (y : MethodName) (b : ByteArray) (L : Nat) (r : Option FieldType) (hh : List (Nat × Nat × Nat × Nat)) : List Cond := Cond.codeWith y b L r hh :: lw_all
theorem lw_methW {y : MethodName} {b : ByteArray} {L : Nat} {r : Option FieldType} {hh : List (Nat × Nat × Nat × Nat)} (h : Cond.codeWith y b L r hh ∈ lw_all) : GoodIn lw_all (wsW_ y b L r hh) := by
  intro w hw
  rcases List.mem_cons.mp hw with e | e
  · rw [e]
    exact lw_self _ h
  · exact lw_self _ e
/-- any list of words by their places (lw_in), good -/
theorem lw_good {ws : List Cond} (h : ∀ w ∈ ws, w ∈ lw_all) : GoodIn lw_all ws := fun w hw => lw_self w (h w hw)
/-- what a call of a method with handlers asks: vx_cwVW n hts (lw_VW ..), vx_cwSW n hts (lw_SW ..) -/
theorem lw_VW {own : String} {idx : Nat} {C : String} {y : MethodName} {b : ByteArray} {L : Nat} {r : Option FieldType} {hh : List (Nat × Nat × Nat × Nat)} (h1 : Cond.methodLink own idx y ∈ lw_all) (h2 : Cond.instanceMethod y ∈ lw_all) (h3 : Cond.selects C y y ∈ lw_all) (h4 : Cond.initialized C ∈ lw_all) (h5 : Cond.codeWith y b L r hh ∈ lw_all) : GoodIn lw_all (wsV own idx C y (wsW_ y b L r hh)) := by
  refine lw_app ?_ (lw_methW h5)
  intro w hw
  simp only [List.mem_cons, List.not_mem_nil, or_false] at hw
  rcases hw with e | e | e | e
  · rw [e]; exact h1
  · rw [e]; exact h2
  · rw [e]; exact h3
  · rw [e]; exact h4
theorem lw_SW {own : String} {idx : Nat} {y : MethodName} {b : ByteArray} {L : Nat} {r : Option FieldType} {hh : List (Nat × Nat × Nat × Nat)} (h1 : Cond.methodLink own idx y ∈ lw_all) (h2 : Cond.static y ∈ lw_all) (h3 : Cond.initialized y.cls ∈ lw_all) (h4 : Cond.codeWith y b L r hh ∈ lw_all) : GoodIn lw_all (va_wsS own idx y (wsW_ y b L r hh)) := by
  refine lw_app ?_ (lw_methW h4)
  intro w hw
  simp only [List.mem_cons, List.not_mem_nil, or_false] at hw
  rcases hw with e | e | e
  · rw [e]; exact h1
  · rw [e]; exact h2
  · rw [e]; exact h3
/-- a word by its place in its run of the tables -/
theorem lw_at {r : List Cond} (hr : ∀ w ∈ r, w ∈ lw_tbl) {w : Cond} (i : Nat) (h : r[i]? = some w) : w ∈ lw_tbl := hr w (List.mem_of_getElem? h)
theorem lw_g {w : Cond} (h : w ∈ lw_tbl) (g : goodWord w = true) : w ∈ lw_all := List.mem_filter.mpr ⟨h, g⟩
theorem lw_ms : ∀ w ∈ k2_sels lw_privs, w ∈ lw_tbl := fun w h => show w ∈ k2_sels lw_privs ++ tables_1 from List.mem_append_left _ h
theorem lw_m1 : ∀ w ∈ tables_1_1, w ∈ lw_tbl := fun w h => show w ∈ k2_sels lw_privs ++ tables_1 from List.mem_append_right (k2_sels lw_privs) (show w ∈ tables_1 from List.mem_append_left _ h)
theorem lw_m2 : ∀ w ∈ tables_1_2, w ∈ lw_tbl := fun w h => show w ∈ k2_sels lw_privs ++ tables_1 from List.mem_append_right (k2_sels lw_privs) (show w ∈ tables_1 from List.mem_append_right _ (List.mem_append_left _ h))
theorem lw_m3 : ∀ w ∈ tables_1_3, w ∈ lw_tbl := fun w h => show w ∈ k2_sels lw_privs ++ tables_1 from List.mem_append_right (k2_sels lw_privs) (show w ∈ tables_1 from List.mem_append_right _ (List.mem_append_right _ (List.mem_append_left _ h)))
theorem lw_m4 : ∀ w ∈ tables_1_4, w ∈ lw_tbl := fun w h => show w ∈ k2_sels lw_privs ++ tables_1 from List.mem_append_right (k2_sels lw_privs) (show w ∈ tables_1 from List.mem_append_right _ (List.mem_append_right _ (List.mem_append_right _ (List.mem_append_left _ h))))
theorem lw_m5 : ∀ w ∈ tables_1_5, w ∈ lw_tbl := fun w h => show w ∈ k2_sels lw_privs ++ tables_1 from List.mem_append_right (k2_sels lw_privs) (show w ∈ tables_1 from List.mem_append_right _ (List.mem_append_right _ (List.mem_append_right _ (List.mem_append_right _ (List.mem_append_left _ h)))))
theorem lw_m6 : ∀ w ∈ tables_1_6, w ∈ lw_tbl := fun w h => show w ∈ k2_sels lw_privs ++ tables_1 from List.mem_append_right (k2_sels lw_privs) (show w ∈ tables_1 from List.mem_append_right _ (List.mem_append_right _ (List.mem_append_right _ (List.mem_append_right _ (List.mem_append_right _ (List.mem_append_left _ h))))))
theorem lw_m7 : ∀ w ∈ tables_1_7, w ∈ lw_tbl := fun w h => show w ∈ k2_sels lw_privs ++ tables_1 from List.mem_append_right (k2_sels lw_privs) (show w ∈ tables_1 from List.mem_append_right _ (List.mem_append_right _ (List.mem_append_right _ (List.mem_append_right _ (List.mem_append_right _ (List.mem_append_right _ (List.mem_append_left _ h)))))))
theorem lw_m8 : ∀ w ∈ tables_1_8, w ∈ lw_tbl := fun w h => show w ∈ k2_sels lw_privs ++ tables_1 from List.mem_append_right (k2_sels lw_privs) (show w ∈ tables_1 from List.mem_append_right _ (List.mem_append_right _ (List.mem_append_right _ (List.mem_append_right _ (List.mem_append_right _ (List.mem_append_right _ (List.mem_append_right _ h)))))))
theorem qs0 : (Cond.selects "java/lang/Throwable" ⟨"java/lang/Throwable", "fillInStackTrace", "(I)Ljava/lang/Throwable;"⟩ ⟨"java/lang/Throwable", "fillInStackTrace", "(I)Ljava/lang/Throwable;"⟩) ∈ lw_all := lw_g (lw_at lw_ms 0 rfl) rfl
theorem qs1 : (Cond.selects "PassportOffice" ⟨"PassportOffice", "four", "(I)V"⟩ ⟨"PassportOffice", "four", "(I)V"⟩) ∈ lw_all := lw_g (lw_at lw_ms 1 rfl) rfl
theorem qs2 : (Cond.selects "PassportOffice" ⟨"PassportOffice", "lawOf", "(I)LPassportOffice$Law;"⟩ ⟨"PassportOffice", "lawOf", "(I)LPassportOffice$Law;"⟩) ∈ lw_all := lw_g (lw_at lw_ms 2 rfl) rfl
theorem qs3 : (Cond.selects "PassportOffice" ⟨"PassportOffice", "inState", "(II)I"⟩ ⟨"PassportOffice", "inState", "(II)I"⟩) ∈ lw_all := lw_g (lw_at lw_ms 3 rfl) rfl
theorem qs4 : (Cond.selects "PassportOffice" ⟨"PassportOffice", "use", "()I"⟩ ⟨"PassportOffice", "use", "()I"⟩) ∈ lw_all := lw_g (lw_at lw_ms 4 rfl) rfl
theorem qs5 : (Cond.selects "PassportOffice$Reader" ⟨"PassportOffice$Reader", "sign", "()I"⟩ ⟨"PassportOffice$Reader", "sign", "()I"⟩) ∈ lw_all := lw_g (lw_at lw_ms 5 rfl) rfl
theorem qs6 : (Cond.selects "PassportOffice$Reader" ⟨"PassportOffice$Reader", "fail", "(I)V"⟩ ⟨"PassportOffice$Reader", "fail", "(I)V"⟩) ∈ lw_all := lw_g (lw_at lw_ms 6 rfl) rfl
theorem qs7 : (Cond.selects "PassportOffice$Reader" ⟨"PassportOffice$Reader", "clause", "()LPassportOffice$Clause;"⟩ ⟨"PassportOffice$Reader", "clause", "()LPassportOffice$Clause;"⟩) ∈ lw_all := lw_g (lw_at lw_ms 7 rfl) rfl
theorem qs8 : (Cond.selects "PassportOffice$Reader" ⟨"PassportOffice$Reader", "one", "([Ljava/lang/String;)I"⟩ ⟨"PassportOffice$Reader", "one", "([Ljava/lang/String;)I"⟩) ∈ lw_all := lw_g (lw_at lw_ms 8 rfl) rfl
theorem qs9 : (Cond.selects "PassportOffice$Reader" ⟨"PassportOffice$Reader", "takes", "(Ljava/lang/String;)Z"⟩ ⟨"PassportOffice$Reader", "takes", "(Ljava/lang/String;)Z"⟩) ∈ lw_all := lw_g (lw_at lw_ms 9 rfl) rfl
theorem qs10 : (Cond.selects "PassportOffice$Reader" ⟨"PassportOffice$Reader", "number", "()I"⟩ ⟨"PassportOffice$Reader", "number", "()I"⟩) ∈ lw_all := lw_g (lw_at lw_ms 10 rfl) rfl
theorem qs11 : (Cond.selects "PassportOffice$Reader" ⟨"PassportOffice$Reader", "cond", "()LPassportOffice$Cond;"⟩ ⟨"PassportOffice$Reader", "cond", "()LPassportOffice$Cond;"⟩) ∈ lw_all := lw_g (lw_at lw_ms 11 rfl) rfl
theorem qs12 : (Cond.selects "PassportOffice$Reader" ⟨"PassportOffice$Reader", "all", "()LPassportOffice$Cond;"⟩ ⟨"PassportOffice$Reader", "all", "()LPassportOffice$Cond;"⟩) ∈ lw_all := lw_g (lw_at lw_ms 12 rfl) rfl
theorem qs13 : (Cond.selects "PassportOffice$Reader" ⟨"PassportOffice$Reader", "atom", "()LPassportOffice$Cond;"⟩ ⟨"PassportOffice$Reader", "atom", "()LPassportOffice$Cond;"⟩) ∈ lw_all := lw_g (lw_at lw_ms 13 rfl) rfl
theorem qs14 : (Cond.selects "PassportOffice$Reader" ⟨"PassportOffice$Reader", "fact", "()LPassportOffice$Cond;"⟩ ⟨"PassportOffice$Reader", "fact", "()LPassportOffice$Cond;"⟩) ∈ lw_all := lw_g (lw_at lw_ms 14 rfl) rfl
theorem qs15 : (Cond.selects "PassportOffice" ⟨"PassportOffice", "personAt", "(I)LPassportOffice$Person;"⟩ ⟨"PassportOffice", "personAt", "(I)LPassportOffice$Person;"⟩) ∈ lw_all := lw_g (lw_at lw_ms 15 rfl) rfl
theorem qs16 : (Cond.selects "PassportOffice" ⟨"PassportOffice", "behindCheck", "(LPassportOffice$Asking;)I"⟩ ⟨"PassportOffice", "behindCheck", "(LPassportOffice$Asking;)I"⟩) ∈ lw_all := lw_g (lw_at lw_ms 16 rfl) rfl
theorem qs17 : (Cond.selects "PassportOffice" ⟨"PassportOffice", "face", "(I)I"⟩ ⟨"PassportOffice", "face", "(I)I"⟩) ∈ lw_all := lw_g (lw_at lw_ms 17 rfl) rfl
theorem qs18 : (Cond.selects "PassportOffice" ⟨"PassportOffice", "isAsked", "(II)V"⟩ ⟨"PassportOffice", "isAsked", "(II)V"⟩) ∈ lw_all := lw_g (lw_at lw_ms 18 rfl) rfl
theorem qs19 : (Cond.selects "PassportOffice" ⟨"PassportOffice", "ruling", "(IIIZ)LPassportOffice$Ruling;"⟩ ⟨"PassportOffice", "ruling", "(IIIZ)LPassportOffice$Ruling;"⟩) ∈ lw_all := lw_g (lw_at lw_ms 19 rfl) rfl
theorem qs20 : (Cond.selects "PassportOffice" ⟨"PassportOffice", "validOf", "(II)I"⟩ ⟨"PassportOffice", "validOf", "(II)I"⟩) ∈ lw_all := lw_g (lw_at lw_ms 20 rfl) rfl
theorem qs21 : (Cond.selects "PassportOffice" ⟨"PassportOffice", "askingAt", "(I)LPassportOffice$Asking;"⟩ ⟨"PassportOffice", "askingAt", "(I)LPassportOffice$Asking;"⟩) ∈ lw_all := lw_g (lw_at lw_ms 21 rfl) rfl
theorem qs22 : (Cond.selects "PassportOffice" ⟨"PassportOffice", "unitsOf", "(II)I"⟩ ⟨"PassportOffice", "unitsOf", "(II)I"⟩) ∈ lw_all := lw_g (lw_at lw_ms 22 rfl) rfl
theorem qs23 : (Cond.selects "PassportOffice" ⟨"PassportOffice", "day", "(LPassportOffice$World;I)V"⟩ ⟨"PassportOffice", "day", "(LPassportOffice$World;I)V"⟩) ∈ lw_all := lw_g (lw_at lw_ms 23 rfl) rfl
theorem qs24 : (Cond.selects "PassportOffice" ⟨"PassportOffice", "gets", "(LPassportOffice$World;I)V"⟩ ⟨"PassportOffice", "gets", "(LPassportOffice$World;I)V"⟩) ∈ lw_all := lw_g (lw_at lw_ms 24 rfl) rfl
theorem qs25 : (Cond.selects "PassportOffice" ⟨"PassportOffice", "callsOf", "(LPassportOffice$World;)I"⟩ ⟨"PassportOffice", "callsOf", "(LPassportOffice$World;)I"⟩) ∈ lw_all := lw_g (lw_at lw_ms 25 rfl) rfl
theorem qs26 : (Cond.selects "PassportOffice" ⟨"PassportOffice", "work", "(LPassportOffice$World;III)I"⟩ ⟨"PassportOffice", "work", "(LPassportOffice$World;III)I"⟩) ∈ lw_all := lw_g (lw_at lw_ms 26 rfl) rfl
theorem qs27 : (Cond.selects "PassportOffice" ⟨"PassportOffice", "line", "(LPassportOffice$World;II)I"⟩ ⟨"PassportOffice", "line", "(LPassportOffice$World;II)I"⟩) ∈ lw_all := lw_g (lw_at lw_ms 27 rfl) rfl
theorem qs28 : (Cond.selects "PassportOffice" ⟨"PassportOffice", "isAhead", "(LPassportOffice$World;III)Z"⟩ ⟨"PassportOffice", "isAhead", "(LPassportOffice$World;III)Z"⟩) ∈ lw_all := lw_g (lw_at lw_ms 28 rfl) rfl
theorem qs29 : (Cond.selects "PassportOffice" ⟨"PassportOffice", "costs", "(LPassportOffice$World;II)I"⟩ ⟨"PassportOffice", "costs", "(LPassportOffice$World;II)I"⟩) ∈ lw_all := lw_g (lw_at lw_ms 29 rfl) rfl
theorem qs30 : (Cond.selects "PassportOffice" ⟨"PassportOffice", "does", "(LPassportOffice$World;II)V"⟩ ⟨"PassportOffice", "does", "(LPassportOffice$World;II)V"⟩) ∈ lw_all := lw_g (lw_at lw_ms 30 rfl) rfl
theorem qs31 : (Cond.selects "PassportOffice" ⟨"PassportOffice", "print", "(LPassportOffice$World;I)V"⟩ ⟨"PassportOffice", "print", "(LPassportOffice$World;I)V"⟩) ∈ lw_all := lw_g (lw_at lw_ms 31 rfl) rfl
theorem qs32 : (Cond.selects "PassportOffice" ⟨"PassportOffice", "isGotAhead", "(II)Z"⟩ ⟨"PassportOffice", "isGotAhead", "(II)Z"⟩) ∈ lw_all := lw_g (lw_at lw_ms 32 rfl) rfl
theorem qs33 : (Cond.selects "PassportOfficeModel" ⟨"PassportOfficeModel", "uses", "()V"⟩ ⟨"PassportOfficeModel", "uses", "()V"⟩) ∈ lw_all := lw_g (lw_at lw_ms 33 rfl) rfl
theorem qs34 : (Cond.selects "PassportOfficeModel" ⟨"PassportOfficeModel", "throwsIf", "(ZI)Z"⟩ ⟨"PassportOfficeModel", "throwsIf", "(ZI)Z"⟩) ∈ lw_all := lw_g (lw_at lw_ms 34 rfl) rfl
theorem qs35 : (Cond.selects "PassportOfficeModel" ⟨"PassportOfficeModel", "readLaw", "()I"⟩ ⟨"PassportOfficeModel", "readLaw", "()I"⟩) ∈ lw_all := lw_g (lw_at lw_ms 35 rfl) rfl
theorem qs36 : (Cond.selects "PassportOfficeModel" ⟨"PassportOfficeModel", "blanksBetween", "()V"⟩ ⟨"PassportOfficeModel", "blanksBetween", "()V"⟩) ∈ lw_all := lw_g (lw_at lw_ms 36 rfl) rfl
theorem qs37 : (Cond.selects "PassportOfficeModel" ⟨"PassportOfficeModel", "isAt", "(II)Z"⟩ ⟨"PassportOfficeModel", "isAt", "(II)Z"⟩) ∈ lw_all := lw_g (lw_at lw_ms 37 rfl) rfl
theorem qs38 : (Cond.selects "PassportOfficeModel" ⟨"PassportOfficeModel", "readClause", "(I)Z"⟩ ⟨"PassportOfficeModel", "readClause", "(I)Z"⟩) ∈ lw_all := lw_g (lw_at lw_ms 38 rfl) rfl
theorem qs39 : (Cond.selects "PassportOfficeModel" ⟨"PassportOfficeModel", "word", "()V"⟩ ⟨"PassportOfficeModel", "word", "()V"⟩) ∈ lw_all := lw_g (lw_at lw_ms 39 rfl) rfl
theorem qs40 : (Cond.selects "PassportOfficeModel" ⟨"PassportOfficeModel", "isWord", "(Ljava/lang/String;)Z"⟩ ⟨"PassportOfficeModel", "isWord", "(Ljava/lang/String;)Z"⟩) ∈ lw_all := lw_g (lw_at lw_ms 40 rfl) rfl
theorem qs41 : (Cond.selects "PassportOfficeModel" ⟨"PassportOfficeModel", "number", "()I"⟩ ⟨"PassportOfficeModel", "number", "()I"⟩) ∈ lw_all := lw_g (lw_at lw_ms 41 rfl) rfl
theorem qs42 : (Cond.selects "PassportOfficeModel" ⟨"PassportOfficeModel", "passes", "(Ljava/lang/String;)Z"⟩ ⟨"PassportOfficeModel", "passes", "(Ljava/lang/String;)Z"⟩) ∈ lw_all := lw_g (lw_at lw_ms 42 rfl) rfl
theorem qs43 : (Cond.selects "PassportOfficeModel" ⟨"PassportOfficeModel", "readCond", "()Z"⟩ ⟨"PassportOfficeModel", "readCond", "()Z"⟩) ∈ lw_all := lw_g (lw_at lw_ms 43 rfl) rfl
theorem qs44 : (Cond.selects "PassportOfficeModel" ⟨"PassportOfficeModel", "readAllOf", "()Z"⟩ ⟨"PassportOfficeModel", "readAllOf", "()Z"⟩) ∈ lw_all := lw_g (lw_at lw_ms 44 rfl) rfl
theorem qs45 : (Cond.selects "PassportOfficeModel" ⟨"PassportOfficeModel", "readAtom", "()Z"⟩ ⟨"PassportOfficeModel", "readAtom", "()Z"⟩) ∈ lw_all := lw_g (lw_at lw_ms 45 rfl) rfl
theorem qs46 : (Cond.selects "PassportOfficeModel" ⟨"PassportOfficeModel", "passesSign", "(I)Z"⟩ ⟨"PassportOfficeModel", "passesSign", "(I)Z"⟩) ∈ lw_all := lw_g (lw_at lw_ms 46 rfl) rfl
theorem qs47 : (Cond.selects "PassportOfficeModel" ⟨"PassportOfficeModel", "adds", "(III)V"⟩ ⟨"PassportOfficeModel", "adds", "(III)V"⟩) ∈ lw_all := lw_g (lw_at lw_ms 47 rfl) rfl
theorem qs48 : (Cond.selects "PassportOfficeModel" ⟨"PassportOfficeModel", "nobody", "(I)Z"⟩ ⟨"PassportOfficeModel", "nobody", "(I)Z"⟩) ∈ lw_all := lw_g (lw_at lw_ms 48 rfl) rfl
theorem qs49 : (Cond.selects "PassportOfficeModel" ⟨"PassportOfficeModel", "readName", "()I"⟩ ⟨"PassportOfficeModel", "readName", "()I"⟩) ∈ lw_all := lw_g (lw_at lw_ms 49 rfl) rfl
theorem qs50 : (Cond.selects "PassportOfficeModel" ⟨"PassportOfficeModel", "farOf", "(II)I"⟩ ⟨"PassportOfficeModel", "farOf", "(II)I"⟩) ∈ lw_all := lw_g (lw_at lw_ms 50 rfl) rfl
theorem qs51 : (Cond.selects "PassportOfficeModel" ⟨"PassportOfficeModel", "unitsOf", "(II)I"⟩ ⟨"PassportOfficeModel", "unitsOf", "(II)I"⟩) ∈ lw_all := lw_g (lw_at lw_ms 51 rfl) rfl
theorem qs52 : (Cond.selects "PassportOfficeModel" ⟨"PassportOfficeModel", "noAsk", "(II)Z"⟩ ⟨"PassportOfficeModel", "noAsk", "(II)Z"⟩) ∈ lw_all := lw_g (lw_at lw_ms 52 rfl) rfl
theorem qs53 : (Cond.selects "PassportOfficeModel" ⟨"PassportOfficeModel", "judges", "(IIIZ)V"⟩ ⟨"PassportOfficeModel", "judges", "(IIIZ)V"⟩) ∈ lw_all := lw_g (lw_at lw_ms 53 rfl) rfl
theorem qs54 : (Cond.selects "PassportOfficeModel" ⟨"PassportOfficeModel", "validOf", "(II)I"⟩ ⟨"PassportOfficeModel", "validOf", "(II)I"⟩) ∈ lw_all := lw_g (lw_at lw_ms 54 rfl) rfl
theorem qs55 : (Cond.selects "PassportOfficeModel" ⟨"PassportOfficeModel", "lawOf", "(I)I"⟩ ⟨"PassportOfficeModel", "lawOf", "(I)I"⟩) ∈ lw_all := lw_g (lw_at lw_ms 55 rfl) rfl
theorem qs56 : (Cond.selects "PassportOfficeModel" ⟨"PassportOfficeModel", "holds", "(III)Z"⟩ ⟨"PassportOfficeModel", "holds", "(III)Z"⟩) ∈ lw_all := lw_g (lw_at lw_ms 56 rfl) rfl
theorem qs57 : (Cond.selects "PassportOfficeModel" ⟨"PassportOfficeModel", "sets", "(III)V"⟩ ⟨"PassportOfficeModel", "sets", "(III)V"⟩) ∈ lw_all := lw_g (lw_at lw_ms 57 rfl) rfl
theorem qs58 : (Cond.selects "PassportOfficeModel" ⟨"PassportOfficeModel", "noAsking", "(I)Z"⟩ ⟨"PassportOfficeModel", "noAsking", "(I)Z"⟩) ∈ lw_all := lw_g (lw_at lw_ms 58 rfl) rfl
theorem qs59 : (Cond.selects "PassportOfficeModel" ⟨"PassportOfficeModel", "now", "(II)I"⟩ ⟨"PassportOfficeModel", "now", "(II)I"⟩) ∈ lw_all := lw_g (lw_at lw_ms 59 rfl) rfl
theorem qs60 : (Cond.selects "PassportOfficeModel" ⟨"PassportOfficeModel", "lacksOf", "(I)I"⟩ ⟨"PassportOfficeModel", "lacksOf", "(I)I"⟩) ∈ lw_all := lw_g (lw_at lw_ms 60 rfl) rfl
theorem qs61 : (Cond.selects "PassportOfficeModel" ⟨"PassportOfficeModel", "checks", "(I)V"⟩ ⟨"PassportOfficeModel", "checks", "(I)V"⟩) ∈ lw_all := lw_g (lw_at lw_ms 61 rfl) rfl
theorem qs62 : (Cond.selects "PassportOfficeModel" ⟨"PassportOfficeModel", "day", "(I)V"⟩ ⟨"PassportOfficeModel", "day", "(I)V"⟩) ∈ lw_all := lw_g (lw_at lw_ms 62 rfl) rfl
theorem qs63 : (Cond.selects "PassportOfficeModel" ⟨"PassportOfficeModel", "gets", "(I)V"⟩ ⟨"PassportOfficeModel", "gets", "(I)V"⟩) ∈ lw_all := lw_g (lw_at lw_ms 63 rfl) rfl
theorem qs64 : (Cond.selects "PassportOfficeModel" ⟨"PassportOfficeModel", "works", "(II)V"⟩ ⟨"PassportOfficeModel", "works", "(II)V"⟩) ∈ lw_all := lw_g (lw_at lw_ms 64 rfl) rfl
theorem qs65 : (Cond.selects "PassportOfficeModel" ⟨"PassportOfficeModel", "lines", "(II)V"⟩ ⟨"PassportOfficeModel", "lines", "(II)V"⟩) ∈ lw_all := lw_g (lw_at lw_ms 65 rfl) rfl
theorem qs66 : (Cond.selects "PassportOfficeModel" ⟨"PassportOfficeModel", "isAhead", "(III)Z"⟩ ⟨"PassportOfficeModel", "isAhead", "(III)Z"⟩) ∈ lw_all := lw_g (lw_at lw_ms 66 rfl) rfl
theorem qs67 : (Cond.selects "PassportOfficeModel" ⟨"PassportOfficeModel", "hasTicket", "(I)Z"⟩ ⟨"PassportOfficeModel", "hasTicket", "(I)Z"⟩) ∈ lw_all := lw_g (lw_at lw_ms 67 rfl) rfl
theorem qs68 : (Cond.selects "PassportOfficeModel" ⟨"PassportOfficeModel", "takes", "(II)I"⟩ ⟨"PassportOfficeModel", "takes", "(II)I"⟩) ∈ lw_all := lw_g (lw_at lw_ms 68 rfl) rfl
theorem qs69 : (Cond.selects "PassportOfficeModel" ⟨"PassportOfficeModel", "canPrint", "()Z"⟩ ⟨"PassportOfficeModel", "canPrint", "()Z"⟩) ∈ lw_all := lw_g (lw_at lw_ms 69 rfl) rfl
theorem qs70 : (Cond.selects "PassportOfficeModel" ⟨"PassportOfficeModel", "does", "(II)V"⟩ ⟨"PassportOfficeModel", "does", "(II)V"⟩) ∈ lw_all := lw_g (lw_at lw_ms 70 rfl) rfl
theorem qs71 : (Cond.selects "PassportOfficeModel" ⟨"PassportOfficeModel", "prints", "(I)V"⟩ ⟨"PassportOfficeModel", "prints", "(I)V"⟩) ∈ lw_all := lw_g (lw_at lw_ms 71 rfl) rfl
theorem qs72 : (Cond.selects "PassportOfficeModel" ⟨"PassportOfficeModel", "inState", "(II)I"⟩ ⟨"PassportOfficeModel", "inState", "(II)I"⟩) ∈ lw_all := lw_g (lw_at lw_ms 72 rfl) rfl
