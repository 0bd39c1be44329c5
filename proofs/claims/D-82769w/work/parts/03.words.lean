/-! the tables words by their places -/
set_option maxRecDepth 100000
theorem q76 : (Jvm.Cond.initialized "java/lang/Throwable") ∈ lw_all := lw_g (lw_at lw_m1 3 rfl) rfl
theorem q154 : (Jvm.Cond.declares ({ cls := "java/lang/Throwable", name := "<init>", desc := "()V" } : Jvm.MethodName)) ∈ lw_tbl := lw_at lw_m1 81 rfl
theorem q155 : (Jvm.Cond.declares ({ cls := "java/lang/Throwable", name := "<init>", desc := "(Ljava/lang/String;)V" } : Jvm.MethodName)) ∈ lw_tbl := lw_at lw_m1 82 rfl
theorem q159 : (Jvm.Cond.lays "java/lang/Throwable" "java/lang/Throwable" "cause" "Ljava/lang/Throwable;") ∈ lw_all := lw_g (lw_at lw_m1 86 rfl) rfl
theorem q161 : (Jvm.Cond.lays "java/lang/Throwable" "java/lang/Throwable" "stackTrace" "[Ljava/lang/StackTraceElement;") ∈ lw_all := lw_g (lw_at lw_m1 88 rfl) rfl
theorem q163 : (Jvm.Cond.lays "java/lang/Throwable" "java/lang/Throwable" "suppressedExceptions" "Ljava/util/List;") ∈ lw_all := lw_g (lw_at lw_m1 90 rfl) rfl
theorem q165 : (Jvm.Cond.lays "java/lang/Throwable" "java/lang/Throwable" "detailMessage" "Ljava/lang/String;") ∈ lw_all := lw_g (lw_at lw_m1 92 rfl) rfl
theorem q167 : (Jvm.Cond.lays "java/lang/Throwable" "java/lang/Throwable" "backtrace" "Ljava/lang/Object;") ∈ lw_all := lw_g (lw_at lw_m1 94 rfl) rfl
theorem q168 : (Jvm.Cond.fieldLink "java/lang/Throwable" (198 : Nat) "java/lang/Throwable" "backtrace" "Ljava/lang/Object;") ∈ lw_all := lw_g (lw_at lw_m1 95 rfl) rfl
theorem q169 : (Jvm.Cond.superclass "java/lang/Throwable" "java/lang/Object") ∈ lw_all := lw_g (lw_at lw_m1 96 rfl) rfl
theorem q170 : (Jvm.Cond.instanceMethod ({ cls := "java/lang/Throwable", name := "<init>", desc := "()V" } : Jvm.MethodName)) ∈ lw_all := lw_g (lw_at lw_m1 97 rfl) rfl
theorem q171 : (Jvm.Cond.code ({ cls := "java/lang/Throwable", name := "<init>", desc := "()V" } : Jvm.MethodName) prog_30_method_1_code (1 : Nat) (Option.none : Option Jvm.ClassFile.FieldType)) ∈ lw_all := lw_g (lw_at lw_m1 98 rfl) rfl
theorem q172 : (Jvm.Cond.methodLink "java/lang/Throwable" (1 : Nat) ({ cls := "java/lang/Object", name := "<init>", desc := "()V" } : Jvm.MethodName)) ∈ lw_all := lw_g (lw_at lw_m1 99 rfl) rfl
theorem q173 : (Jvm.Cond.fieldLink "java/lang/Throwable" (13 : Nat) "java/lang/Throwable" "UNASSIGNED_STACK" "[Ljava/lang/StackTraceElement;") ∈ lw_all := lw_g (lw_at lw_m1 100 rfl) rfl
theorem q174 : (Jvm.Cond.laysStatic "java/lang/Throwable" "UNASSIGNED_STACK" "[Ljava/lang/StackTraceElement;") ∈ lw_tbl := lw_at lw_m1 101 rfl
theorem q175 : (Jvm.Cond.fieldLink "java/lang/Throwable" (20 : Nat) "java/lang/Throwable" "SUPPRESSED_SENTINEL" "Ljava/util/List;") ∈ lw_all := lw_g (lw_at lw_m1 102 rfl) rfl
theorem q176 : (Jvm.Cond.laysStatic "java/lang/Throwable" "SUPPRESSED_SENTINEL" "Ljava/util/List;") ∈ lw_tbl := lw_at lw_m1 103 rfl
theorem q177 : (Jvm.Cond.methodLink "java/lang/Throwable" (27 : Nat) ({ cls := "java/lang/Throwable", name := "fillInStackTrace", desc := "()Ljava/lang/Throwable;" } : Jvm.MethodName)) ∈ lw_all := lw_g (lw_at lw_m1 104 rfl) rfl
theorem q178 : (Jvm.Cond.instanceMethod ({ cls := "java/lang/Throwable", name := "fillInStackTrace", desc := "()Ljava/lang/Throwable;" } : Jvm.MethodName)) ∈ lw_all := lw_g (lw_at lw_m1 105 rfl) rfl
theorem q179 : (Jvm.Cond.sameMethod "java/lang/Throwable" "java/lang/Throwable" "fillInStackTrace" "()Ljava/lang/Throwable;") ∈ lw_all := lw_g (lw_at lw_m1 106 rfl) rfl
theorem q186 : (Jvm.Cond.codeSync ({ cls := "java/lang/Throwable", name := "fillInStackTrace", desc := "()Ljava/lang/Throwable;" } : Jvm.MethodName) prog_30_method_18_code (1 : Nat) (Option.some (Jvm.ClassFile.FieldType.object "java/lang/Throwable"))) ∈ lw_all := lw_g (lw_at lw_m1 113 rfl) rfl
theorem q187 : (Jvm.Cond.methodLink "java/lang/Throwable" (202 : Nat) ({ cls := "java/lang/Throwable", name := "fillInStackTrace", desc := "(I)Ljava/lang/Throwable;" } : Jvm.MethodName)) ∈ lw_all := lw_g (lw_at lw_m1 114 rfl) rfl
theorem q188 : (Jvm.Cond.privateMethod ({ cls := "java/lang/Throwable", name := "fillInStackTrace", desc := "(I)Ljava/lang/Throwable;" } : Jvm.MethodName)) ∈ lw_tbl := lw_at lw_m1 115 rfl
theorem q189 : (Jvm.Cond.instanceMethod ({ cls := "java/lang/Throwable", name := "fillInStackTrace", desc := "(I)Ljava/lang/Throwable;" } : Jvm.MethodName)) ∈ lw_all := lw_g (lw_at lw_m1 116 rfl) rfl
theorem q190 : (Jvm.Cond.instantiable "java/lang/Throwable" (6 : Nat)) ∈ lw_all := lw_g (lw_at lw_m1 117 rfl) rfl
theorem q191 : (Jvm.Cond.native ({ cls := "java/lang/Throwable", name := "fillInStackTrace", desc := "(I)Ljava/lang/Throwable;" } : Jvm.MethodName)) ∈ lw_all := lw_g (lw_at lw_m1 118 rfl) rfl
theorem q202 : (Jvm.Cond.instanceMethod ({ cls := "java/lang/Throwable", name := "<init>", desc := "(Ljava/lang/String;Ljava/lang/Throwable;ZZ)V" } : Jvm.MethodName)) ∈ lw_all := lw_g (lw_at lw_m1 129 rfl) rfl
theorem q203 : (Jvm.Cond.code ({ cls := "java/lang/Throwable", name := "<init>", desc := "(Ljava/lang/String;Ljava/lang/Throwable;ZZ)V" } : Jvm.MethodName) prog_30_method_5_code (5 : Nat) (Option.none : Option Jvm.ClassFile.FieldType)) ∈ lw_all := lw_g (lw_at lw_m1 130 rfl) rfl
theorem q206 : (Jvm.Cond.fieldLink "java/lang/Throwable" (198 : Nat) "java/lang/Throwable" "backtrace" "Ljava/lang/Object;") ∈ lw_all := lw_g (lw_at lw_m1 133 rfl) rfl
theorem q207 : (Jvm.Cond.fieldLink "java/lang/Throwable" (31 : Nat) "java/lang/Throwable" "detailMessage" "Ljava/lang/String;") ∈ lw_all := lw_g (lw_at lw_m1 134 rfl) rfl
theorem q208 : (Jvm.Cond.fieldLink "java/lang/Throwable" (7 : Nat) "java/lang/Throwable" "cause" "Ljava/lang/Throwable;") ∈ lw_all := lw_g (lw_at lw_m1 135 rfl) rfl
theorem q209 : (Jvm.Cond.fieldLink "java/lang/Throwable" (17 : Nat) "java/lang/Throwable" "stackTrace" "[Ljava/lang/StackTraceElement;") ∈ lw_all := lw_g (lw_at lw_m1 136 rfl) rfl
theorem q210 : (Jvm.Cond.fieldLink "java/lang/Throwable" (24 : Nat) "java/lang/Throwable" "suppressedExceptions" "Ljava/util/List;") ∈ lw_all := lw_g (lw_at lw_m1 137 rfl) rfl
theorem q213 : (Jvm.Cond.soleField "java/lang/Throwable" "backtrace") ∈ lw_all := lw_g (lw_at lw_m1 140 rfl) rfl
theorem q214 : (Jvm.Cond.soleField "java/lang/Throwable" "detailMessage") ∈ lw_all := lw_g (lw_at lw_m1 141 rfl) rfl
theorem q215 : (Jvm.Cond.soleField "java/lang/Throwable" "cause") ∈ lw_all := lw_g (lw_at lw_m1 142 rfl) rfl
theorem q216 : (Jvm.Cond.soleField "java/lang/Throwable" "stackTrace") ∈ lw_all := lw_g (lw_at lw_m1 143 rfl) rfl
theorem q218 : (Jvm.Cond.soleField "java/lang/Throwable" "depth") ∈ lw_all := lw_g (lw_at lw_m1 145 rfl) rfl
theorem q219 : (Jvm.Cond.soleField "java/lang/Throwable" "suppressedExceptions") ∈ lw_all := lw_g (lw_at lw_m1 146 rfl) rfl
theorem q712 : (Jvm.Cond.instanceMethod ({ cls := "java/lang/Throwable", name := "<init>", desc := "(Ljava/lang/String;)V" } : Jvm.MethodName)) ∈ lw_all := lw_g (lw_at lw_m3 159 rfl) rfl
theorem q713 : (Jvm.Cond.code ({ cls := "java/lang/Throwable", name := "<init>", desc := "(Ljava/lang/String;)V" } : Jvm.MethodName) prog_30_method_2_code (2 : Nat) (Option.none : Option Jvm.ClassFile.FieldType)) ∈ lw_all := lw_g (lw_at lw_m3 160 rfl) rfl
theorem q1868 : (Jvm.Cond.sameMethod "java/lang/Throwable" "java/lang/Throwable" "fillInStackTrace" "(I)Ljava/lang/Throwable;") ∈ lw_all := lw_g (lw_at lw_m8 115 rfl) rfl
theorem q1892 : (Jvm.Cond.castable "java/lang/Throwable" "java/lang/Object") ∈ lw_tbl := lw_at lw_m8 139 rfl
theorem in_J0 : ∀ w ∈ wsJ00, w ∈ lw_all := lw_in wsJ00 [159, 161, 163, 165, 167] (by decide +kernel) (by decide +kernel)
theorem q77 : (Jvm.Cond.initialized "java/lang/Exception") ∈ lw_all := lw_g (lw_at lw_m1 4 rfl) rfl
theorem q152 : (Jvm.Cond.declares ({ cls := "java/lang/Exception", name := "<init>", desc := "()V" } : Jvm.MethodName)) ∈ lw_tbl := lw_at lw_m1 79 rfl
theorem q153 : (Jvm.Cond.declares ({ cls := "java/lang/Exception", name := "<init>", desc := "(Ljava/lang/String;)V" } : Jvm.MethodName)) ∈ lw_tbl := lw_at lw_m1 80 rfl
theorem q199 : (Jvm.Cond.instanceMethod ({ cls := "java/lang/Exception", name := "<init>", desc := "(Ljava/lang/String;Ljava/lang/Throwable;ZZ)V" } : Jvm.MethodName)) ∈ lw_all := lw_g (lw_at lw_m1 126 rfl) rfl
theorem q200 : (Jvm.Cond.code ({ cls := "java/lang/Exception", name := "<init>", desc := "(Ljava/lang/String;Ljava/lang/Throwable;ZZ)V" } : Jvm.MethodName) prog_20_method_5_code (5 : Nat) (Option.none : Option Jvm.ClassFile.FieldType)) ∈ lw_all := lw_g (lw_at lw_m1 127 rfl) rfl
theorem q201 : (Jvm.Cond.methodLink "java/lang/Exception" (16 : Nat) ({ cls := "java/lang/Throwable", name := "<init>", desc := "(Ljava/lang/String;Ljava/lang/Throwable;ZZ)V" } : Jvm.MethodName)) ∈ lw_all := lw_g (lw_at lw_m1 128 rfl) rfl
theorem q463 : (Jvm.Cond.instanceMethod ({ cls := "java/lang/Exception", name := "<init>", desc := "()V" } : Jvm.MethodName)) ∈ lw_all := lw_g (lw_at lw_m2 150 rfl) rfl
theorem q464 : (Jvm.Cond.code ({ cls := "java/lang/Exception", name := "<init>", desc := "()V" } : Jvm.MethodName) prog_20_method_1_code (1 : Nat) (Option.none : Option Jvm.ClassFile.FieldType)) ∈ lw_all := lw_g (lw_at lw_m2 151 rfl) rfl
theorem q465 : (Jvm.Cond.methodLink "java/lang/Exception" (1 : Nat) ({ cls := "java/lang/Throwable", name := "<init>", desc := "()V" } : Jvm.MethodName)) ∈ lw_all := lw_g (lw_at lw_m2 152 rfl) rfl
theorem q709 : (Jvm.Cond.instanceMethod ({ cls := "java/lang/Exception", name := "<init>", desc := "(Ljava/lang/String;)V" } : Jvm.MethodName)) ∈ lw_all := lw_g (lw_at lw_m3 156 rfl) rfl
theorem q710 : (Jvm.Cond.code ({ cls := "java/lang/Exception", name := "<init>", desc := "(Ljava/lang/String;)V" } : Jvm.MethodName) prog_20_method_2_code (2 : Nat) (Option.none : Option Jvm.ClassFile.FieldType)) ∈ lw_all := lw_g (lw_at lw_m3 157 rfl) rfl
theorem q711 : (Jvm.Cond.methodLink "java/lang/Exception" (7 : Nat) ({ cls := "java/lang/Throwable", name := "<init>", desc := "(Ljava/lang/String;)V" } : Jvm.MethodName)) ∈ lw_all := lw_g (lw_at lw_m3 158 rfl) rfl
theorem q97 : (Jvm.Cond.initialized "java/lang/ArrayIndexOutOfBoundsException") ∈ lw_all := lw_g (lw_at lw_m1 24 rfl) rfl
theorem q180 : (Jvm.Cond.selects "java/lang/ArrayIndexOutOfBoundsException" ({ cls := "java/lang/Throwable", name := "fillInStackTrace", desc := "()Ljava/lang/Throwable;" } : Jvm.MethodName) ({ cls := "java/lang/Throwable", name := "fillInStackTrace", desc := "()Ljava/lang/Throwable;" } : Jvm.MethodName)) ∈ lw_all := lw_g (lw_at lw_m1 107 rfl) rfl
theorem q699 : (Jvm.Cond.instantiable "java/lang/ArrayIndexOutOfBoundsException" (6 : Nat)) ∈ lw_all := lw_g (lw_at lw_m3 146 rfl) rfl
theorem q700 : (Jvm.Cond.instanceMethod ({ cls := "java/lang/ArrayIndexOutOfBoundsException", name := "<init>", desc := "(Ljava/lang/String;)V" } : Jvm.MethodName)) ∈ lw_all := lw_g (lw_at lw_m3 147 rfl) rfl
theorem q701 : (Jvm.Cond.code ({ cls := "java/lang/ArrayIndexOutOfBoundsException", name := "<init>", desc := "(Ljava/lang/String;)V" } : Jvm.MethodName) prog_19_method_2_code (2 : Nat) (Option.none : Option Jvm.ClassFile.FieldType)) ∈ lw_all := lw_g (lw_at lw_m3 148 rfl) rfl
theorem q702 : (Jvm.Cond.methodLink "java/lang/ArrayIndexOutOfBoundsException" (7 : Nat) ({ cls := "java/lang/IndexOutOfBoundsException", name := "<init>", desc := "(Ljava/lang/String;)V" } : Jvm.MethodName)) ∈ lw_all := lw_g (lw_at lw_m3 149 rfl) rfl
theorem q714 : (Jvm.Cond.lays "java/lang/ArrayIndexOutOfBoundsException" "java/lang/Throwable" "backtrace" "Ljava/lang/Object;") ∈ lw_all := lw_g (lw_at lw_m3 161 rfl) rfl
theorem q715 : (Jvm.Cond.lays "java/lang/ArrayIndexOutOfBoundsException" "java/lang/Throwable" "detailMessage" "Ljava/lang/String;") ∈ lw_all := lw_g (lw_at lw_m3 162 rfl) rfl
theorem q716 : (Jvm.Cond.lays "java/lang/ArrayIndexOutOfBoundsException" "java/lang/Throwable" "cause" "Ljava/lang/Throwable;") ∈ lw_all := lw_g (lw_at lw_m3 163 rfl) rfl
theorem q717 : (Jvm.Cond.lays "java/lang/ArrayIndexOutOfBoundsException" "java/lang/Throwable" "stackTrace" "[Ljava/lang/StackTraceElement;") ∈ lw_all := lw_g (lw_at lw_m3 164 rfl) rfl
theorem q718 : (Jvm.Cond.lays "java/lang/ArrayIndexOutOfBoundsException" "java/lang/Throwable" "depth" "I") ∈ lw_all := lw_g (lw_at lw_m3 165 rfl) rfl
theorem q719 : (Jvm.Cond.lays "java/lang/ArrayIndexOutOfBoundsException" "java/lang/Throwable" "suppressedExceptions" "Ljava/util/List;") ∈ lw_all := lw_g (lw_at lw_m3 166 rfl) rfl
theorem q720 : (Jvm.Cond.superclass "java/lang/ArrayIndexOutOfBoundsException" "java/lang/IndexOutOfBoundsException") ∈ lw_all := lw_g (lw_at lw_m3 167 rfl) rfl
theorem q721 : (Jvm.Cond.castable "java/lang/ArrayIndexOutOfBoundsException" "java/lang/ArrayIndexOutOfBoundsException") ∈ lw_tbl := lw_at lw_m3 168 rfl
theorem q724 : (Jvm.Cond.selects "java/lang/ArrayIndexOutOfBoundsException" ({ cls := "java/lang/Throwable", name := "fillInStackTrace", desc := "(I)Ljava/lang/Throwable;" } : Jvm.MethodName) ({ cls := "java/lang/Throwable", name := "fillInStackTrace", desc := "(I)Ljava/lang/Throwable;" } : Jvm.MethodName)) ∈ lw_all := lw_g (lw_at lw_m3 171 rfl) rfl
theorem q1869 : (Jvm.Cond.castable "java/lang/ArrayIndexOutOfBoundsException" "java/lang/IndexOutOfBoundsException") ∈ lw_tbl := lw_at lw_m8 116 rfl
theorem q1883 : (Jvm.Cond.castable "java/lang/ArrayIndexOutOfBoundsException" "java/lang/Object") ∈ lw_tbl := lw_at lw_m8 130 rfl
theorem in_J10 : ∀ w ∈ wsJ100, w ∈ lw_all := lw_in wsJ100 [714, 715, 716, 717, 718, 719] (by decide +kernel) (by decide +kernel)
theorem q99 : (Jvm.Cond.initialized "java/lang/Math") ∈ lw_all := lw_g (lw_at lw_m1 26 rfl) rfl
theorem q881 : (Jvm.Cond.static ({ cls := "java/lang/Math", name := "min", desc := "(II)I" } : Jvm.MethodName)) ∈ lw_all := lw_g (lw_at lw_m4 88 rfl) rfl
theorem q882 : (Jvm.Cond.code ({ cls := "java/lang/Math", name := "min", desc := "(II)I" } : Jvm.MethodName) prog_24_method_69_code (2 : Nat) (Option.some Jvm.ClassFile.FieldType.int)) ∈ lw_all := lw_g (lw_at lw_m4 89 rfl) rfl
theorem q884 : (Jvm.Cond.static ({ cls := "java/lang/Math", name := "max", desc := "(II)I" } : Jvm.MethodName)) ∈ lw_all := lw_g (lw_at lw_m4 91 rfl) rfl
theorem q885 : (Jvm.Cond.code ({ cls := "java/lang/Math", name := "max", desc := "(II)I" } : Jvm.MethodName) prog_24_method_65_code (2 : Nat) (Option.some Jvm.ClassFile.FieldType.int)) ∈ lw_all := lw_g (lw_at lw_m4 92 rfl) rfl
theorem q1721 : (Jvm.Cond.static ({ cls := "java/lang/Math", name := "floorDiv", desc := "(II)I" } : Jvm.MethodName)) ∈ lw_all := lw_g (lw_at lw_m7 208 rfl) rfl
theorem q1722 : (Jvm.Cond.code ({ cls := "java/lang/Math", name := "floorDiv", desc := "(II)I" } : Jvm.MethodName) prog_24_method_47_code (3 : Nat) (Option.some Jvm.ClassFile.FieldType.int)) ∈ lw_all := lw_g (lw_at lw_m7 209 rfl) rfl
theorem q100 : (Jvm.Cond.initialized "java/util/NoSuchElementException") ∈ lw_all := lw_g (lw_at lw_m1 27 rfl) rfl
theorem q185 : (Jvm.Cond.selects "java/util/NoSuchElementException" ({ cls := "java/lang/Throwable", name := "fillInStackTrace", desc := "()Ljava/lang/Throwable;" } : Jvm.MethodName) ({ cls := "java/lang/Throwable", name := "fillInStackTrace", desc := "()Ljava/lang/Throwable;" } : Jvm.MethodName)) ∈ lw_all := lw_g (lw_at lw_m1 112 rfl) rfl
theorem q887 : (Jvm.Cond.instantiable "java/util/NoSuchElementException" (6 : Nat)) ∈ lw_all := lw_g (lw_at lw_m4 94 rfl) rfl
theorem q888 : (Jvm.Cond.castable "java/util/NoSuchElementException" "java/util/NoSuchElementException") ∈ lw_tbl := lw_at lw_m4 95 rfl
theorem q889 : (Jvm.Cond.selects "java/util/NoSuchElementException" ({ cls := "java/lang/Throwable", name := "fillInStackTrace", desc := "(I)Ljava/lang/Throwable;" } : Jvm.MethodName) ({ cls := "java/lang/Throwable", name := "fillInStackTrace", desc := "(I)Ljava/lang/Throwable;" } : Jvm.MethodName)) ∈ lw_all := lw_g (lw_at lw_m4 96 rfl) rfl
theorem q890 : (Jvm.Cond.lays "java/util/NoSuchElementException" "java/lang/Throwable" "cause" "Ljava/lang/Throwable;") ∈ lw_all := lw_g (lw_at lw_m4 97 rfl) rfl
theorem q891 : (Jvm.Cond.lays "java/util/NoSuchElementException" "java/lang/Throwable" "stackTrace" "[Ljava/lang/StackTraceElement;") ∈ lw_all := lw_g (lw_at lw_m4 98 rfl) rfl
theorem q892 : (Jvm.Cond.lays "java/util/NoSuchElementException" "java/lang/Throwable" "suppressedExceptions" "Ljava/util/List;") ∈ lw_all := lw_g (lw_at lw_m4 99 rfl) rfl
theorem q893 : (Jvm.Cond.lays "java/util/NoSuchElementException" "java/lang/Throwable" "detailMessage" "Ljava/lang/String;") ∈ lw_all := lw_g (lw_at lw_m4 100 rfl) rfl
theorem q894 : (Jvm.Cond.lays "java/util/NoSuchElementException" "java/lang/Throwable" "backtrace" "Ljava/lang/Object;") ∈ lw_all := lw_g (lw_at lw_m4 101 rfl) rfl
theorem q896 : (Jvm.Cond.instanceMethod ({ cls := "java/util/NoSuchElementException", name := "<init>", desc := "()V" } : Jvm.MethodName)) ∈ lw_all := lw_g (lw_at lw_m4 103 rfl) rfl
theorem q897 : (Jvm.Cond.code ({ cls := "java/util/NoSuchElementException", name := "<init>", desc := "()V" } : Jvm.MethodName) prog_32_method_1_code (1 : Nat) (Option.none : Option Jvm.ClassFile.FieldType)) ∈ lw_all := lw_g (lw_at lw_m4 104 rfl) rfl
theorem q898 : (Jvm.Cond.methodLink "java/util/NoSuchElementException" (1 : Nat) ({ cls := "java/lang/RuntimeException", name := "<init>", desc := "()V" } : Jvm.MethodName)) ∈ lw_all := lw_g (lw_at lw_m4 105 rfl) rfl
theorem q899 : (Jvm.Cond.lays "java/util/NoSuchElementException" "java/lang/Throwable" "depth" "I") ∈ lw_all := lw_g (lw_at lw_m4 106 rfl) rfl
theorem q900 : (Jvm.Cond.superclass "java/util/NoSuchElementException" "java/lang/RuntimeException") ∈ lw_all := lw_g (lw_at lw_m4 107 rfl) rfl
theorem q1886 : (Jvm.Cond.castable "java/util/NoSuchElementException" "java/lang/Object") ∈ lw_tbl := lw_at lw_m8 133 rfl
theorem in_J12 : ∀ w ∈ wsJ120, w ∈ lw_all := lw_in wsJ120 [890, 891, 892, 893, 894, 899] (by decide +kernel) (by decide +kernel)
theorem q103 : (Jvm.Cond.initialized "java/lang/IllegalStateException") ∈ lw_all := lw_g (lw_at lw_m1 30 rfl) rfl
theorem q182 : (Jvm.Cond.selects "java/lang/IllegalStateException" ({ cls := "java/lang/Throwable", name := "fillInStackTrace", desc := "()Ljava/lang/Throwable;" } : Jvm.MethodName) ({ cls := "java/lang/Throwable", name := "fillInStackTrace", desc := "()Ljava/lang/Throwable;" } : Jvm.MethodName)) ∈ lw_all := lw_g (lw_at lw_m1 109 rfl) rfl
theorem q1000 : (Jvm.Cond.instantiable "java/lang/IllegalStateException" (6 : Nat)) ∈ lw_all := lw_g (lw_at lw_m4 207 rfl) rfl
theorem q1001 : (Jvm.Cond.castable "java/lang/IllegalStateException" "java/lang/IllegalStateException") ∈ lw_tbl := lw_at lw_m4 208 rfl
theorem q1002 : (Jvm.Cond.selects "java/lang/IllegalStateException" ({ cls := "java/lang/Throwable", name := "fillInStackTrace", desc := "(I)Ljava/lang/Throwable;" } : Jvm.MethodName) ({ cls := "java/lang/Throwable", name := "fillInStackTrace", desc := "(I)Ljava/lang/Throwable;" } : Jvm.MethodName)) ∈ lw_all := lw_g (lw_at lw_m4 209 rfl) rfl
theorem q1003 : (Jvm.Cond.lays "java/lang/IllegalStateException" "java/lang/Throwable" "cause" "Ljava/lang/Throwable;") ∈ lw_all := lw_g (lw_at lw_m4 210 rfl) rfl
theorem q1004 : (Jvm.Cond.lays "java/lang/IllegalStateException" "java/lang/Throwable" "stackTrace" "[Ljava/lang/StackTraceElement;") ∈ lw_all := lw_g (lw_at lw_m4 211 rfl) rfl
theorem q1005 : (Jvm.Cond.lays "java/lang/IllegalStateException" "java/lang/Throwable" "suppressedExceptions" "Ljava/util/List;") ∈ lw_all := lw_g (lw_at lw_m4 212 rfl) rfl
theorem q1006 : (Jvm.Cond.lays "java/lang/IllegalStateException" "java/lang/Throwable" "detailMessage" "Ljava/lang/String;") ∈ lw_all := lw_g (lw_at lw_m4 213 rfl) rfl
theorem q1007 : (Jvm.Cond.lays "java/lang/IllegalStateException" "java/lang/Throwable" "backtrace" "Ljava/lang/Object;") ∈ lw_all := lw_g (lw_at lw_m4 214 rfl) rfl
theorem q1009 : (Jvm.Cond.instanceMethod ({ cls := "java/lang/IllegalStateException", name := "<init>", desc := "()V" } : Jvm.MethodName)) ∈ lw_all := lw_g (lw_at lw_m4 216 rfl) rfl
theorem q1010 : (Jvm.Cond.code ({ cls := "java/lang/IllegalStateException", name := "<init>", desc := "()V" } : Jvm.MethodName) prog_22_method_1_code (1 : Nat) (Option.none : Option Jvm.ClassFile.FieldType)) ∈ lw_all := lw_g (lw_at lw_m4 217 rfl) rfl
theorem q1011 : (Jvm.Cond.methodLink "java/lang/IllegalStateException" (1 : Nat) ({ cls := "java/lang/RuntimeException", name := "<init>", desc := "()V" } : Jvm.MethodName)) ∈ lw_all := lw_g (lw_at lw_m4 218 rfl) rfl
theorem q1012 : (Jvm.Cond.lays "java/lang/IllegalStateException" "java/lang/Throwable" "depth" "I") ∈ lw_all := lw_g (lw_at lw_m4 219 rfl) rfl
theorem q1013 : (Jvm.Cond.superclass "java/lang/IllegalStateException" "java/lang/RuntimeException") ∈ lw_all := lw_g (lw_at lw_m4 220 rfl) rfl
theorem q1889 : (Jvm.Cond.castable "java/lang/IllegalStateException" "java/lang/Object") ∈ lw_tbl := lw_at lw_m8 136 rfl
theorem in_J13 : ∀ w ∈ wsJ130, w ∈ lw_all := lw_in wsJ130 [1003, 1004, 1005, 1006, 1007, 1012] (by decide +kernel) (by decide +kernel)
theorem q112 : (Jvm.Cond.instanceMethod ({ cls := "java/lang/Object", name := "<init>", desc := "()V" } : Jvm.MethodName)) ∈ lw_all := lw_g (lw_at lw_m1 39 rfl) rfl
theorem q113 : (Jvm.Cond.code ({ cls := "java/lang/Object", name := "<init>", desc := "()V" } : Jvm.MethodName) object_method_1_code (1 : Nat) (Option.none : Option Jvm.ClassFile.FieldType)) ∈ lw_all := lw_g (lw_at lw_m1 40 rfl) rfl
theorem q78 : (Jvm.Cond.initialized "java/lang/RuntimeException") ∈ lw_all := lw_g (lw_at lw_m1 5 rfl) rfl
theorem q150 : (Jvm.Cond.declares ({ cls := "java/lang/RuntimeException", name := "<init>", desc := "()V" } : Jvm.MethodName)) ∈ lw_tbl := lw_at lw_m1 77 rfl
theorem q151 : (Jvm.Cond.declares ({ cls := "java/lang/RuntimeException", name := "<init>", desc := "(Ljava/lang/String;)V" } : Jvm.MethodName)) ∈ lw_tbl := lw_at lw_m1 78 rfl
theorem q196 : (Jvm.Cond.instanceMethod ({ cls := "java/lang/RuntimeException", name := "<init>", desc := "(Ljava/lang/String;Ljava/lang/Throwable;ZZ)V" } : Jvm.MethodName)) ∈ lw_all := lw_g (lw_at lw_m1 123 rfl) rfl
theorem q197 : (Jvm.Cond.code ({ cls := "java/lang/RuntimeException", name := "<init>", desc := "(Ljava/lang/String;Ljava/lang/Throwable;ZZ)V" } : Jvm.MethodName) prog_25_method_5_code (5 : Nat) (Option.none : Option Jvm.ClassFile.FieldType)) ∈ lw_all := lw_g (lw_at lw_m1 124 rfl) rfl
theorem q198 : (Jvm.Cond.methodLink "java/lang/RuntimeException" (16 : Nat) ({ cls := "java/lang/Exception", name := "<init>", desc := "(Ljava/lang/String;Ljava/lang/Throwable;ZZ)V" } : Jvm.MethodName)) ∈ lw_all := lw_g (lw_at lw_m1 125 rfl) rfl
theorem q460 : (Jvm.Cond.instanceMethod ({ cls := "java/lang/RuntimeException", name := "<init>", desc := "()V" } : Jvm.MethodName)) ∈ lw_all := lw_g (lw_at lw_m2 147 rfl) rfl
theorem q461 : (Jvm.Cond.code ({ cls := "java/lang/RuntimeException", name := "<init>", desc := "()V" } : Jvm.MethodName) prog_25_method_1_code (1 : Nat) (Option.none : Option Jvm.ClassFile.FieldType)) ∈ lw_all := lw_g (lw_at lw_m2 148 rfl) rfl
theorem q462 : (Jvm.Cond.methodLink "java/lang/RuntimeException" (1 : Nat) ({ cls := "java/lang/Exception", name := "<init>", desc := "()V" } : Jvm.MethodName)) ∈ lw_all := lw_g (lw_at lw_m2 149 rfl) rfl
theorem q706 : (Jvm.Cond.instanceMethod ({ cls := "java/lang/RuntimeException", name := "<init>", desc := "(Ljava/lang/String;)V" } : Jvm.MethodName)) ∈ lw_all := lw_g (lw_at lw_m3 153 rfl) rfl
theorem q707 : (Jvm.Cond.code ({ cls := "java/lang/RuntimeException", name := "<init>", desc := "(Ljava/lang/String;)V" } : Jvm.MethodName) prog_25_method_2_code (2 : Nat) (Option.none : Option Jvm.ClassFile.FieldType)) ∈ lw_all := lw_g (lw_at lw_m3 154 rfl) rfl
theorem q708 : (Jvm.Cond.methodLink "java/lang/RuntimeException" (7 : Nat) ({ cls := "java/lang/Exception", name := "<init>", desc := "(Ljava/lang/String;)V" } : Jvm.MethodName)) ∈ lw_all := lw_g (lw_at lw_m3 155 rfl) rfl
theorem q82 : (Jvm.Cond.initialized "java/lang/IllegalArgumentException") ∈ lw_all := lw_g (lw_at lw_m1 9 rfl) rfl
theorem q181 : (Jvm.Cond.selects "java/lang/IllegalArgumentException" ({ cls := "java/lang/Throwable", name := "fillInStackTrace", desc := "()Ljava/lang/Throwable;" } : Jvm.MethodName) ({ cls := "java/lang/Throwable", name := "fillInStackTrace", desc := "()Ljava/lang/Throwable;" } : Jvm.MethodName)) ∈ lw_all := lw_g (lw_at lw_m1 108 rfl) rfl
theorem q448 : (Jvm.Cond.instantiable "java/lang/IllegalArgumentException" (6 : Nat)) ∈ lw_all := lw_g (lw_at lw_m2 135 rfl) rfl
theorem q449 : (Jvm.Cond.castable "java/lang/IllegalArgumentException" "java/lang/IllegalArgumentException") ∈ lw_tbl := lw_at lw_m2 136 rfl
theorem q450 : (Jvm.Cond.selects "java/lang/IllegalArgumentException" ({ cls := "java/lang/Throwable", name := "fillInStackTrace", desc := "(I)Ljava/lang/Throwable;" } : Jvm.MethodName) ({ cls := "java/lang/Throwable", name := "fillInStackTrace", desc := "(I)Ljava/lang/Throwable;" } : Jvm.MethodName)) ∈ lw_all := lw_g (lw_at lw_m2 137 rfl) rfl
theorem q451 : (Jvm.Cond.lays "java/lang/IllegalArgumentException" "java/lang/Throwable" "cause" "Ljava/lang/Throwable;") ∈ lw_all := lw_g (lw_at lw_m2 138 rfl) rfl
theorem q452 : (Jvm.Cond.lays "java/lang/IllegalArgumentException" "java/lang/Throwable" "stackTrace" "[Ljava/lang/StackTraceElement;") ∈ lw_all := lw_g (lw_at lw_m2 139 rfl) rfl
theorem q453 : (Jvm.Cond.lays "java/lang/IllegalArgumentException" "java/lang/Throwable" "suppressedExceptions" "Ljava/util/List;") ∈ lw_all := lw_g (lw_at lw_m2 140 rfl) rfl
theorem q454 : (Jvm.Cond.lays "java/lang/IllegalArgumentException" "java/lang/Throwable" "detailMessage" "Ljava/lang/String;") ∈ lw_all := lw_g (lw_at lw_m2 141 rfl) rfl
theorem q455 : (Jvm.Cond.lays "java/lang/IllegalArgumentException" "java/lang/Throwable" "backtrace" "Ljava/lang/Object;") ∈ lw_all := lw_g (lw_at lw_m2 142 rfl) rfl
theorem q457 : (Jvm.Cond.instanceMethod ({ cls := "java/lang/IllegalArgumentException", name := "<init>", desc := "()V" } : Jvm.MethodName)) ∈ lw_all := lw_g (lw_at lw_m2 144 rfl) rfl
theorem q458 : (Jvm.Cond.code ({ cls := "java/lang/IllegalArgumentException", name := "<init>", desc := "()V" } : Jvm.MethodName) prog_21_method_1_code (1 : Nat) (Option.none : Option Jvm.ClassFile.FieldType)) ∈ lw_all := lw_g (lw_at lw_m2 145 rfl) rfl
theorem q459 : (Jvm.Cond.methodLink "java/lang/IllegalArgumentException" (1 : Nat) ({ cls := "java/lang/RuntimeException", name := "<init>", desc := "()V" } : Jvm.MethodName)) ∈ lw_all := lw_g (lw_at lw_m2 146 rfl) rfl
theorem q466 : (Jvm.Cond.lays "java/lang/IllegalArgumentException" "java/lang/Throwable" "depth" "I") ∈ lw_all := lw_g (lw_at lw_m2 153 rfl) rfl
theorem q467 : (Jvm.Cond.superclass "java/lang/IllegalArgumentException" "java/lang/RuntimeException") ∈ lw_all := lw_g (lw_at lw_m2 154 rfl) rfl
theorem q1875 : (Jvm.Cond.castable "java/lang/IllegalArgumentException" "java/lang/Object") ∈ lw_tbl := lw_at lw_m8 122 rfl
theorem in_J3 : ∀ w ∈ wsJ30, w ∈ lw_all := lw_in wsJ30 [451, 452, 453, 454, 455, 466] (by decide +kernel) (by decide +kernel)
theorem q83 : (Jvm.Cond.initialized "java/lang/String") ∈ lw_all := lw_g (lw_at lw_m1 10 rfl) rfl
theorem q493 : (Jvm.Cond.instanceMethod ({ cls := "java/lang/String", name := "length", desc := "()I" } : Jvm.MethodName)) ∈ lw_all := lw_g (lw_at lw_m2 180 rfl) rfl
theorem q494 : (Jvm.Cond.selects "java/lang/String" ({ cls := "java/lang/String", name := "length", desc := "()I" } : Jvm.MethodName) ({ cls := "java/lang/String", name := "length", desc := "()I" } : Jvm.MethodName)) ∈ lw_all := lw_g (lw_at lw_m2 181 rfl) rfl
theorem q495 : (Jvm.Cond.code ({ cls := "java/lang/String", name := "length", desc := "()I" } : Jvm.MethodName) prog_26_method_54_code (1 : Nat) (Option.some Jvm.ClassFile.FieldType.int)) ∈ lw_all := lw_g (lw_at lw_m2 182 rfl) rfl
theorem q496 : (Jvm.Cond.methodLink "java/lang/String" (335 : Nat) ({ cls := "java/lang/String", name := "coder", desc := "()B" } : Jvm.MethodName)) ∈ lw_all := lw_g (lw_at lw_m2 183 rfl) rfl
theorem q497 : (Jvm.Cond.instanceMethod ({ cls := "java/lang/String", name := "coder", desc := "()B" } : Jvm.MethodName)) ∈ lw_all := lw_g (lw_at lw_m2 184 rfl) rfl
theorem q498 : (Jvm.Cond.selects "java/lang/String" ({ cls := "java/lang/String", name := "coder", desc := "()B" } : Jvm.MethodName) ({ cls := "java/lang/String", name := "coder", desc := "()B" } : Jvm.MethodName)) ∈ lw_all := lw_g (lw_at lw_m2 185 rfl) rfl
theorem q499 : (Jvm.Cond.code ({ cls := "java/lang/String", name := "coder", desc := "()B" } : Jvm.MethodName) prog_26_method_152_code (1 : Nat) (Option.some Jvm.ClassFile.FieldType.byte)) ∈ lw_all := lw_g (lw_at lw_m2 186 rfl) rfl
theorem q500 : (Jvm.Cond.fieldLink "java/lang/String" (38 : Nat) "java/lang/String" "COMPACT_STRINGS" "Z") ∈ lw_all := lw_g (lw_at lw_m2 187 rfl) rfl
theorem q501 : (Jvm.Cond.laysStatic "java/lang/String" "COMPACT_STRINGS" "Z") ∈ lw_tbl := lw_at lw_m2 188 rfl
theorem q503 : (Jvm.Cond.instanceMethod ({ cls := "java/lang/String", name := "charAt", desc := "(I)C" } : Jvm.MethodName)) ∈ lw_all := lw_g (lw_at lw_m2 190 rfl) rfl
theorem q504 : (Jvm.Cond.selects "java/lang/String" ({ cls := "java/lang/String", name := "charAt", desc := "(I)C" } : Jvm.MethodName) ({ cls := "java/lang/String", name := "charAt", desc := "(I)C" } : Jvm.MethodName)) ∈ lw_all := lw_g (lw_at lw_m2 191 rfl) rfl
theorem q505 : (Jvm.Cond.code ({ cls := "java/lang/String", name := "charAt", desc := "(I)C" } : Jvm.MethodName) prog_26_method_56_code (2 : Nat) (Option.some Jvm.ClassFile.FieldType.char)) ∈ lw_all := lw_g (lw_at lw_m2 192 rfl) rfl
theorem q506 : (Jvm.Cond.methodLink "java/lang/String" (492 : Nat) ({ cls := "java/lang/String", name := "isLatin1", desc := "()Z" } : Jvm.MethodName)) ∈ lw_all := lw_g (lw_at lw_m2 193 rfl) rfl
theorem q507 : (Jvm.Cond.instanceMethod ({ cls := "java/lang/String", name := "isLatin1", desc := "()Z" } : Jvm.MethodName)) ∈ lw_all := lw_g (lw_at lw_m2 194 rfl) rfl
theorem q508 : (Jvm.Cond.selects "java/lang/String" ({ cls := "java/lang/String", name := "isLatin1", desc := "()Z" } : Jvm.MethodName) ({ cls := "java/lang/String", name := "isLatin1", desc := "()Z" } : Jvm.MethodName)) ∈ lw_all := lw_g (lw_at lw_m2 195 rfl) rfl
theorem q509 : (Jvm.Cond.code ({ cls := "java/lang/String", name := "isLatin1", desc := "()Z" } : Jvm.MethodName) prog_26_method_154_code (1 : Nat) (Option.some Jvm.ClassFile.FieldType.boolean)) ∈ lw_all := lw_g (lw_at lw_m2 196 rfl) rfl
theorem q510 : (Jvm.Cond.methodLink "java/lang/String" (495 : Nat) ({ cls := "java/lang/StringLatin1", name := "charAt", desc := "([BI)C" } : Jvm.MethodName)) ∈ lw_all := lw_g (lw_at lw_m2 197 rfl) rfl
theorem q514 : (Jvm.Cond.static ({ cls := "java/lang/String", name := "checkIndex", desc := "(II)V" } : Jvm.MethodName)) ∈ lw_all := lw_g (lw_at lw_m2 201 rfl) rfl
theorem q515 : (Jvm.Cond.code ({ cls := "java/lang/String", name := "checkIndex", desc := "(II)V" } : Jvm.MethodName) prog_26_method_155_code (2 : Nat) (Option.none : Option Jvm.ClassFile.FieldType)) ∈ lw_all := lw_g (lw_at lw_m2 202 rfl) rfl
theorem q516 : (Jvm.Cond.fieldLink "java/lang/String" (1053 : Nat) "jdk/internal/util/Preconditions" "SIOOBE_FORMATTER" "Ljava/util/function/BiFunction;") ∈ lw_all := lw_g (lw_at lw_m2 203 rfl) rfl
theorem q518 : (Jvm.Cond.methodLink "java/lang/String" (1059 : Nat) ({ cls := "jdk/internal/util/Preconditions", name := "checkIndex", desc := "(IILjava/util/function/BiFunction;)I" } : Jvm.MethodName)) ∈ lw_all := lw_g (lw_at lw_m2 205 rfl) rfl
theorem q521 : (Jvm.Cond.methodLink "java/lang/String" (498 : Nat) ({ cls := "java/lang/StringUTF16", name := "charAt", desc := "([BI)C" } : Jvm.MethodName)) ∈ lw_all := lw_g (lw_at lw_m2 208 rfl) rfl
theorem q725 : (Jvm.Cond.instantiable "java/lang/String" (4 : Nat)) ∈ lw_all := lw_g (lw_at lw_m3 172 rfl) rfl
theorem q726 : (Jvm.Cond.laysFinal "java/lang/String" "java/lang/String" "value" "[B") ∈ lw_all := lw_g (lw_at lw_m3 173 rfl) rfl
theorem q727 : (Jvm.Cond.soleField "java/lang/String" "value") ∈ lw_all := lw_g (lw_at lw_m3 174 rfl) rfl
theorem q728 : (Jvm.Cond.laysFinal "java/lang/String" "java/lang/String" "coder" "B") ∈ lw_all := lw_g (lw_at lw_m3 175 rfl) rfl
theorem q729 : (Jvm.Cond.soleField "java/lang/String" "coder") ∈ lw_all := lw_g (lw_at lw_m3 176 rfl) rfl
theorem q1893 : (Jvm.Cond.castable "java/lang/String" "java/lang/Object") ∈ lw_tbl := lw_at lw_m8 140 rfl
theorem q1894 : (Jvm.Cond.fieldLink "java/lang/String" (9 : Nat) "java/lang/String" "value" "[B") ∈ lw_all := lw_g (lw_at lw_m8 141 rfl) rfl
theorem q1895 : (Jvm.Cond.fieldLink "java/lang/String" (15 : Nat) "java/lang/String" "coder" "B") ∈ lw_all := lw_g (lw_at lw_m8 142 rfl) rfl
theorem in_J4 : ∀ w ∈ wsJ40, w ∈ lw_all := lw_in wsJ40 [726, 728] (by decide +kernel) (by decide +kernel)
theorem q84 : (Jvm.Cond.initialized "java/lang/StringLatin1") ∈ lw_all := lw_g (lw_at lw_m1 11 rfl) rfl
theorem q511 : (Jvm.Cond.static ({ cls := "java/lang/StringLatin1", name := "charAt", desc := "([BI)C" } : Jvm.MethodName)) ∈ lw_all := lw_g (lw_at lw_m2 198 rfl) rfl
theorem q512 : (Jvm.Cond.code ({ cls := "java/lang/StringLatin1", name := "charAt", desc := "([BI)C" } : Jvm.MethodName) prog_27_method_2_code (2 : Nat) (Option.some Jvm.ClassFile.FieldType.char)) ∈ lw_all := lw_g (lw_at lw_m2 199 rfl) rfl
theorem q513 : (Jvm.Cond.methodLink "java/lang/StringLatin1" (9 : Nat) ({ cls := "java/lang/String", name := "checkIndex", desc := "(II)V" } : Jvm.MethodName)) ∈ lw_all := lw_g (lw_at lw_m2 200 rfl) rfl
theorem q85 : (Jvm.Cond.initialized "jdk/internal/util/Preconditions") ∈ lw_all := lw_g (lw_at lw_m1 12 rfl) rfl
theorem q517 : (Jvm.Cond.laysStatic "jdk/internal/util/Preconditions" "SIOOBE_FORMATTER" "Ljava/util/function/BiFunction;") ∈ lw_tbl := lw_at lw_m2 204 rfl
theorem q519 : (Jvm.Cond.static ({ cls := "jdk/internal/util/Preconditions", name := "checkIndex", desc := "(IILjava/util/function/BiFunction;)I" } : Jvm.MethodName)) ∈ lw_all := lw_g (lw_at lw_m2 206 rfl) rfl
theorem q520 : (Jvm.Cond.code ({ cls := "jdk/internal/util/Preconditions", name := "checkIndex", desc := "(IILjava/util/function/BiFunction;)I" } : Jvm.MethodName) prog_33_method_11_code (3 : Nat) (Option.some Jvm.ClassFile.FieldType.int)) ∈ lw_all := lw_g (lw_at lw_m2 207 rfl) rfl
theorem q86 : (Jvm.Cond.initialized "java/lang/StringUTF16") ∈ lw_all := lw_g (lw_at lw_m1 13 rfl) rfl
theorem q522 : (Jvm.Cond.static ({ cls := "java/lang/StringUTF16", name := "charAt", desc := "([BI)C" } : Jvm.MethodName)) ∈ lw_all := lw_g (lw_at lw_m2 209 rfl) rfl
theorem q523 : (Jvm.Cond.code ({ cls := "java/lang/StringUTF16", name := "charAt", desc := "([BI)C" } : Jvm.MethodName) prog_28_method_83_code (2 : Nat) (Option.some Jvm.ClassFile.FieldType.char)) ∈ lw_all := lw_g (lw_at lw_m2 210 rfl) rfl
theorem q524 : (Jvm.Cond.methodLink "java/lang/StringUTF16" (67 : Nat) ({ cls := "java/lang/StringUTF16", name := "checkIndex", desc := "(I[B)V" } : Jvm.MethodName)) ∈ lw_all := lw_g (lw_at lw_m2 211 rfl) rfl
theorem q525 : (Jvm.Cond.static ({ cls := "java/lang/StringUTF16", name := "checkIndex", desc := "(I[B)V" } : Jvm.MethodName)) ∈ lw_all := lw_g (lw_at lw_m2 212 rfl) rfl
theorem q526 : (Jvm.Cond.code ({ cls := "java/lang/StringUTF16", name := "checkIndex", desc := "(I[B)V" } : Jvm.MethodName) prog_28_method_91_code (2 : Nat) (Option.none : Option Jvm.ClassFile.FieldType)) ∈ lw_all := lw_g (lw_at lw_m2 213 rfl) rfl
theorem q527 : (Jvm.Cond.methodLink "java/lang/StringUTF16" (48 : Nat) ({ cls := "java/lang/StringUTF16", name := "length", desc := "([B)I" } : Jvm.MethodName)) ∈ lw_all := lw_g (lw_at lw_m2 214 rfl) rfl
theorem q528 : (Jvm.Cond.static ({ cls := "java/lang/StringUTF16", name := "length", desc := "([B)I" } : Jvm.MethodName)) ∈ lw_all := lw_g (lw_at lw_m2 215 rfl) rfl
theorem q529 : (Jvm.Cond.code ({ cls := "java/lang/StringUTF16", name := "length", desc := "([B)I" } : Jvm.MethodName) prog_28_method_6_code (1 : Nat) (Option.some Jvm.ClassFile.FieldType.int)) ∈ lw_all := lw_g (lw_at lw_m2 216 rfl) rfl
theorem q530 : (Jvm.Cond.methodLink "java/lang/StringUTF16" (414 : Nat) ({ cls := "java/lang/String", name := "checkIndex", desc := "(II)V" } : Jvm.MethodName)) ∈ lw_all := lw_g (lw_at lw_m2 217 rfl) rfl
theorem q531 : (Jvm.Cond.methodLink "java/lang/StringUTF16" (71 : Nat) ({ cls := "java/lang/StringUTF16", name := "getChar", desc := "([BI)C" } : Jvm.MethodName)) ∈ lw_all := lw_g (lw_at lw_m2 218 rfl) rfl
theorem q532 : (Jvm.Cond.static ({ cls := "java/lang/StringUTF16", name := "getChar", desc := "([BI)C" } : Jvm.MethodName)) ∈ lw_all := lw_g (lw_at lw_m2 219 rfl) rfl
theorem q533 : (Jvm.Cond.code ({ cls := "java/lang/StringUTF16", name := "getChar", desc := "([BI)C" } : Jvm.MethodName) prog_28_method_5_code (2 : Nat) (Option.some Jvm.ClassFile.FieldType.char)) ∈ lw_all := lw_g (lw_at lw_m2 220 rfl) rfl
theorem q534 : (Jvm.Cond.fieldLink "java/lang/StringUTF16" (44 : Nat) "java/lang/StringUTF16" "$assertionsDisabled" "Z") ∈ lw_all := lw_g (lw_at lw_m2 221 rfl) rfl
theorem q535 : (Jvm.Cond.laysStatic "java/lang/StringUTF16" "$assertionsDisabled" "Z") ∈ lw_tbl := lw_at lw_m2 222 rfl
theorem q536 : (Jvm.Cond.fieldLink "java/lang/StringUTF16" (59 : Nat) "java/lang/StringUTF16" "HI_BYTE_SHIFT" "I") ∈ lw_all := lw_g (lw_at lw_m2 223 rfl) rfl
theorem q537 : (Jvm.Cond.laysStatic "java/lang/StringUTF16" "HI_BYTE_SHIFT" "I") ∈ lw_tbl := lw_at lw_m2 224 rfl
theorem q538 : (Jvm.Cond.fieldLink "java/lang/StringUTF16" (63 : Nat) "java/lang/StringUTF16" "LO_BYTE_SHIFT" "I") ∈ lw_all := lw_g (lw_at lw_m2 225 rfl) rfl
theorem q539 : (Jvm.Cond.laysStatic "java/lang/StringUTF16" "LO_BYTE_SHIFT" "I") ∈ lw_tbl := lw_at lw_m2 226 rfl
theorem q94 : (Jvm.Cond.initialized "java/lang/UnsupportedOperationException") ∈ lw_all := lw_g (lw_at lw_m1 21 rfl) rfl
theorem q184 : (Jvm.Cond.selects "java/lang/UnsupportedOperationException" ({ cls := "java/lang/Throwable", name := "fillInStackTrace", desc := "()Ljava/lang/Throwable;" } : Jvm.MethodName) ({ cls := "java/lang/Throwable", name := "fillInStackTrace", desc := "()Ljava/lang/Throwable;" } : Jvm.MethodName)) ∈ lw_all := lw_g (lw_at lw_m1 111 rfl) rfl
theorem q653 : (Jvm.Cond.instantiable "java/lang/UnsupportedOperationException" (6 : Nat)) ∈ lw_all := lw_g (lw_at lw_m3 100 rfl) rfl
theorem q654 : (Jvm.Cond.castable "java/lang/UnsupportedOperationException" "java/lang/UnsupportedOperationException") ∈ lw_tbl := lw_at lw_m3 101 rfl
theorem q655 : (Jvm.Cond.selects "java/lang/UnsupportedOperationException" ({ cls := "java/lang/Throwable", name := "fillInStackTrace", desc := "(I)Ljava/lang/Throwable;" } : Jvm.MethodName) ({ cls := "java/lang/Throwable", name := "fillInStackTrace", desc := "(I)Ljava/lang/Throwable;" } : Jvm.MethodName)) ∈ lw_all := lw_g (lw_at lw_m3 102 rfl) rfl
theorem q656 : (Jvm.Cond.lays "java/lang/UnsupportedOperationException" "java/lang/Throwable" "cause" "Ljava/lang/Throwable;") ∈ lw_all := lw_g (lw_at lw_m3 103 rfl) rfl
theorem q657 : (Jvm.Cond.lays "java/lang/UnsupportedOperationException" "java/lang/Throwable" "stackTrace" "[Ljava/lang/StackTraceElement;") ∈ lw_all := lw_g (lw_at lw_m3 104 rfl) rfl
theorem q658 : (Jvm.Cond.lays "java/lang/UnsupportedOperationException" "java/lang/Throwable" "suppressedExceptions" "Ljava/util/List;") ∈ lw_all := lw_g (lw_at lw_m3 105 rfl) rfl
theorem q659 : (Jvm.Cond.lays "java/lang/UnsupportedOperationException" "java/lang/Throwable" "detailMessage" "Ljava/lang/String;") ∈ lw_all := lw_g (lw_at lw_m3 106 rfl) rfl
theorem q660 : (Jvm.Cond.lays "java/lang/UnsupportedOperationException" "java/lang/Throwable" "backtrace" "Ljava/lang/Object;") ∈ lw_all := lw_g (lw_at lw_m3 107 rfl) rfl
theorem q662 : (Jvm.Cond.instanceMethod ({ cls := "java/lang/UnsupportedOperationException", name := "<init>", desc := "()V" } : Jvm.MethodName)) ∈ lw_all := lw_g (lw_at lw_m3 109 rfl) rfl
theorem q663 : (Jvm.Cond.code ({ cls := "java/lang/UnsupportedOperationException", name := "<init>", desc := "()V" } : Jvm.MethodName) prog_31_method_1_code (1 : Nat) (Option.none : Option Jvm.ClassFile.FieldType)) ∈ lw_all := lw_g (lw_at lw_m3 110 rfl) rfl
theorem q664 : (Jvm.Cond.methodLink "java/lang/UnsupportedOperationException" (1 : Nat) ({ cls := "java/lang/RuntimeException", name := "<init>", desc := "()V" } : Jvm.MethodName)) ∈ lw_all := lw_g (lw_at lw_m3 111 rfl) rfl
theorem q665 : (Jvm.Cond.lays "java/lang/UnsupportedOperationException" "java/lang/Throwable" "depth" "I") ∈ lw_all := lw_g (lw_at lw_m3 112 rfl) rfl
theorem q666 : (Jvm.Cond.superclass "java/lang/UnsupportedOperationException" "java/lang/RuntimeException") ∈ lw_all := lw_g (lw_at lw_m3 113 rfl) rfl
theorem q1881 : (Jvm.Cond.castable "java/lang/UnsupportedOperationException" "java/lang/Object") ∈ lw_tbl := lw_at lw_m8 128 rfl
theorem in_J8 : ∀ w ∈ wsJ80, w ∈ lw_all := lw_in wsJ80 [656, 657, 658, 659, 660, 665] (by decide +kernel) (by decide +kernel)
theorem q96 : (Jvm.Cond.initialized "java/lang/IndexOutOfBoundsException") ∈ lw_all := lw_g (lw_at lw_m1 23 rfl) rfl
theorem q183 : (Jvm.Cond.selects "java/lang/IndexOutOfBoundsException" ({ cls := "java/lang/Throwable", name := "fillInStackTrace", desc := "()Ljava/lang/Throwable;" } : Jvm.MethodName) ({ cls := "java/lang/Throwable", name := "fillInStackTrace", desc := "()Ljava/lang/Throwable;" } : Jvm.MethodName)) ∈ lw_all := lw_g (lw_at lw_m1 110 rfl) rfl
theorem q703 : (Jvm.Cond.instanceMethod ({ cls := "java/lang/IndexOutOfBoundsException", name := "<init>", desc := "(Ljava/lang/String;)V" } : Jvm.MethodName)) ∈ lw_all := lw_g (lw_at lw_m3 150 rfl) rfl
theorem q704 : (Jvm.Cond.code ({ cls := "java/lang/IndexOutOfBoundsException", name := "<init>", desc := "(Ljava/lang/String;)V" } : Jvm.MethodName) prog_23_method_2_code (2 : Nat) (Option.none : Option Jvm.ClassFile.FieldType)) ∈ lw_all := lw_g (lw_at lw_m3 151 rfl) rfl
theorem q705 : (Jvm.Cond.methodLink "java/lang/IndexOutOfBoundsException" (7 : Nat) ({ cls := "java/lang/RuntimeException", name := "<init>", desc := "(Ljava/lang/String;)V" } : Jvm.MethodName)) ∈ lw_all := lw_g (lw_at lw_m3 152 rfl) rfl
theorem q722 : (Jvm.Cond.declares ({ cls := "java/lang/IndexOutOfBoundsException", name := "<init>", desc := "()V" } : Jvm.MethodName)) ∈ lw_tbl := lw_at lw_m3 169 rfl
theorem q723 : (Jvm.Cond.declares ({ cls := "java/lang/IndexOutOfBoundsException", name := "<init>", desc := "(Ljava/lang/String;)V" } : Jvm.MethodName)) ∈ lw_tbl := lw_at lw_m3 170 rfl
theorem q742 : (Jvm.Cond.instantiable "java/lang/IndexOutOfBoundsException" (6 : Nat)) ∈ lw_all := lw_g (lw_at lw_m3 189 rfl) rfl
theorem q743 : (Jvm.Cond.castable "java/lang/IndexOutOfBoundsException" "java/lang/IndexOutOfBoundsException") ∈ lw_tbl := lw_at lw_m3 190 rfl
theorem q744 : (Jvm.Cond.selects "java/lang/IndexOutOfBoundsException" ({ cls := "java/lang/Throwable", name := "fillInStackTrace", desc := "(I)Ljava/lang/Throwable;" } : Jvm.MethodName) ({ cls := "java/lang/Throwable", name := "fillInStackTrace", desc := "(I)Ljava/lang/Throwable;" } : Jvm.MethodName)) ∈ lw_all := lw_g (lw_at lw_m3 191 rfl) rfl
theorem q745 : (Jvm.Cond.lays "java/lang/IndexOutOfBoundsException" "java/lang/Throwable" "cause" "Ljava/lang/Throwable;") ∈ lw_all := lw_g (lw_at lw_m3 192 rfl) rfl
theorem q746 : (Jvm.Cond.lays "java/lang/IndexOutOfBoundsException" "java/lang/Throwable" "stackTrace" "[Ljava/lang/StackTraceElement;") ∈ lw_all := lw_g (lw_at lw_m3 193 rfl) rfl
theorem q747 : (Jvm.Cond.lays "java/lang/IndexOutOfBoundsException" "java/lang/Throwable" "suppressedExceptions" "Ljava/util/List;") ∈ lw_all := lw_g (lw_at lw_m3 194 rfl) rfl
theorem q748 : (Jvm.Cond.lays "java/lang/IndexOutOfBoundsException" "java/lang/Throwable" "detailMessage" "Ljava/lang/String;") ∈ lw_all := lw_g (lw_at lw_m3 195 rfl) rfl
theorem q749 : (Jvm.Cond.lays "java/lang/IndexOutOfBoundsException" "java/lang/Throwable" "backtrace" "Ljava/lang/Object;") ∈ lw_all := lw_g (lw_at lw_m3 196 rfl) rfl
theorem q751 : (Jvm.Cond.instanceMethod ({ cls := "java/lang/IndexOutOfBoundsException", name := "<init>", desc := "()V" } : Jvm.MethodName)) ∈ lw_all := lw_g (lw_at lw_m3 198 rfl) rfl
theorem q752 : (Jvm.Cond.code ({ cls := "java/lang/IndexOutOfBoundsException", name := "<init>", desc := "()V" } : Jvm.MethodName) prog_23_method_1_code (1 : Nat) (Option.none : Option Jvm.ClassFile.FieldType)) ∈ lw_all := lw_g (lw_at lw_m3 199 rfl) rfl
theorem q753 : (Jvm.Cond.methodLink "java/lang/IndexOutOfBoundsException" (1 : Nat) ({ cls := "java/lang/RuntimeException", name := "<init>", desc := "()V" } : Jvm.MethodName)) ∈ lw_all := lw_g (lw_at lw_m3 200 rfl) rfl
theorem q754 : (Jvm.Cond.lays "java/lang/IndexOutOfBoundsException" "java/lang/Throwable" "depth" "I") ∈ lw_all := lw_g (lw_at lw_m3 201 rfl) rfl
theorem q755 : (Jvm.Cond.superclass "java/lang/IndexOutOfBoundsException" "java/lang/RuntimeException") ∈ lw_all := lw_g (lw_at lw_m3 202 rfl) rfl
theorem q1884 : (Jvm.Cond.castable "java/lang/IndexOutOfBoundsException" "java/lang/Object") ∈ lw_tbl := lw_at lw_m8 131 rfl
theorem in_J9 : ∀ w ∈ wsJ90, w ∈ lw_all := lw_in wsJ90 [745, 746, 747, 748, 749, 754] (by decide +kernel) (by decide +kernel)
theorem q73 : (Jvm.Cond.initialized "PassportOfficeLaw") ∈ lw_all := lw_g (lw_at lw_m1 0 rfl) rfl
theorem q106 : (Jvm.Cond.classLink "PassportOfficeLaw" (8 : Nat) "PassportOffice") ∈ lw_all := lw_g (lw_at lw_m1 33 rfl) rfl
theorem q108 : (Jvm.Cond.methodLink "PassportOfficeLaw" (114 : Nat) ({ cls := "PassportOffice", name := "<init>", desc := "()V" } : Jvm.MethodName)) ∈ lw_all := lw_g (lw_at lw_m1 35 rfl) rfl
theorem q395 : (Jvm.Cond.methodLink "PassportOfficeLaw" (118 : Nat) ({ cls := "PassportOffice", name := "feed", desc := "(IIIII)I" } : Jvm.MethodName)) ∈ lw_all := lw_g (lw_at lw_m2 82 rfl) rfl
theorem q403 : (Jvm.Cond.methodLink "PassportOfficeLaw" (122 : Nat) ({ cls := "PassportOffice", name := "end", desc := "(I)Z" } : Jvm.MethodName)) ∈ lw_all := lw_g (lw_at lw_m2 90 rfl) rfl
theorem q410 : (Jvm.Cond.methodLink "PassportOfficeLaw" (137 : Nat) ({ cls := "PassportOffice", name := "fault", desc := "()I" } : Jvm.MethodName)) ∈ lw_all := lw_g (lw_at lw_m2 97 rfl) rfl
theorem q414 : (Jvm.Cond.methodLink "PassportOfficeLaw" (232 : Nat) ({ cls := "PassportOffice", name := "ends", desc := "(II)I" } : Jvm.MethodName)) ∈ lw_all := lw_g (lw_at lw_m2 101 rfl) rfl
theorem q418 : (Jvm.Cond.methodLink "PassportOfficeLaw" (236 : Nat) ({ cls := "PassportOffice", name := "count", desc := "(I)I" } : Jvm.MethodName)) ∈ lw_all := lw_g (lw_at lw_m2 105 rfl) rfl
theorem q430 : (Jvm.Cond.methodLink "PassportOfficeLaw" (127 : Nat) ({ cls := "PassportOfficeLaw", name := "law", desc := "(LPassportOffice;I[J)I" } : Jvm.MethodName)) ∈ lw_all := lw_g (lw_at lw_m2 117 rfl) rfl
theorem q431 : (Jvm.Cond.static ({ cls := "PassportOfficeLaw", name := "law", desc := "(LPassportOffice;I[J)I" } : Jvm.MethodName)) ∈ lw_all := lw_g (lw_at lw_m2 118 rfl) rfl
theorem q432 : (Jvm.Cond.codeWith ({ cls := "PassportOfficeLaw", name := "law", desc := "(LPassportOffice;I[J)I" } : Jvm.MethodName) method_3_code (4 : Nat) (Option.some Jvm.ClassFile.FieldType.int) [((0 : Nat), (9 : Nat), (12 : Nat), (13 : Nat)), ((0 : Nat), (9 : Nat), (15 : Nat), (15 : Nat))]) ∈ lw_all := lw_g (lw_at lw_m2 119 rfl) rfl
theorem q433 : (Jvm.Cond.classLink "PassportOfficeLaw" (13 : Nat) "java/lang/IllegalArgumentException") ∈ lw_all := lw_g (lw_at lw_m2 120 rfl) rfl
theorem q434 : (Jvm.Cond.classLink "PassportOfficeLaw" (15 : Nat) "java/lang/UnsupportedOperationException") ∈ lw_all := lw_g (lw_at lw_m2 121 rfl) rfl
theorem q435 : (Jvm.Cond.methodLink "PassportOfficeLaw" (7 : Nat) ({ cls := "PassportOffice", name := "law", desc := "(I)I" } : Jvm.MethodName)) ∈ lw_all := lw_g (lw_at lw_m2 122 rfl) rfl
theorem q667 : (Jvm.Cond.methodLink "PassportOfficeLaw" (141 : Nat) ({ cls := "PassportOfficeLaw", name := "person", desc := "(LPassportOffice;IZIIIII[J)I" } : Jvm.MethodName)) ∈ lw_all := lw_g (lw_at lw_m3 114 rfl) rfl
theorem q668 : (Jvm.Cond.static ({ cls := "PassportOfficeLaw", name := "person", desc := "(LPassportOffice;IZIIIII[J)I" } : Jvm.MethodName)) ∈ lw_all := lw_g (lw_at lw_m3 115 rfl) rfl
theorem q669 : (Jvm.Cond.codeWith ({ cls := "PassportOfficeLaw", name := "person", desc := "(LPassportOffice;IZIIIII[J)I" } : Jvm.MethodName) method_4_code (10 : Nat) (Option.some Jvm.ClassFile.FieldType.int) [((0 : Nat), (20 : Nat), (23 : Nat), (13 : Nat)), ((0 : Nat), (20 : Nat), (27 : Nat), (15 : Nat))]) ∈ lw_all := lw_g (lw_at lw_m3 116 rfl) rfl
theorem q670 : (Jvm.Cond.methodLink "PassportOfficeLaw" (17 : Nat) ({ cls := "PassportOffice", name := "person", desc := "(IZIIIII)I" } : Jvm.MethodName)) ∈ lw_all := lw_g (lw_at lw_m3 117 rfl) rfl
theorem q695 : (Jvm.Cond.methodLink "PassportOfficeLaw" (145 : Nat) ({ cls := "PassportOfficeLaw", name := "name", desc := "(LPassportOffice;I[J)I" } : Jvm.MethodName)) ∈ lw_all := lw_g (lw_at lw_m3 142 rfl) rfl
theorem q696 : (Jvm.Cond.static ({ cls := "PassportOfficeLaw", name := "name", desc := "(LPassportOffice;I[J)I" } : Jvm.MethodName)) ∈ lw_all := lw_g (lw_at lw_m3 143 rfl) rfl
theorem q697 : (Jvm.Cond.codeWith ({ cls := "PassportOfficeLaw", name := "name", desc := "(LPassportOffice;I[J)I" } : Jvm.MethodName) method_5_code (4 : Nat) (Option.some Jvm.ClassFile.FieldType.int) [((0 : Nat), (9 : Nat), (12 : Nat), (24 : Nat)), ((0 : Nat), (9 : Nat), (15 : Nat), (13 : Nat))]) ∈ lw_all := lw_g (lw_at lw_m3 144 rfl) rfl
theorem q698 : (Jvm.Cond.classLink "PassportOfficeLaw" (24 : Nat) "java/lang/IndexOutOfBoundsException") ∈ lw_all := lw_g (lw_at lw_m3 145 rfl) rfl
theorem q730 : (Jvm.Cond.methodLink "PassportOfficeLaw" (21 : Nat) ({ cls := "PassportOffice", name := "name", desc := "(I)I" } : Jvm.MethodName)) ∈ lw_all := lw_g (lw_at lw_m3 177 rfl) rfl
theorem q763 : (Jvm.Cond.methodLink "PassportOfficeLaw" (148 : Nat) ({ cls := "PassportOfficeLaw", name := "sign", desc := "(LPassportOffice;II[J)I" } : Jvm.MethodName)) ∈ lw_all := lw_g (lw_at lw_m3 210 rfl) rfl
theorem q764 : (Jvm.Cond.static ({ cls := "PassportOfficeLaw", name := "sign", desc := "(LPassportOffice;II[J)I" } : Jvm.MethodName)) ∈ lw_all := lw_g (lw_at lw_m3 211 rfl) rfl
theorem q765 : (Jvm.Cond.codeWith ({ cls := "PassportOfficeLaw", name := "sign", desc := "(LPassportOffice;II[J)I" } : Jvm.MethodName) method_6_code (5 : Nat) (Option.some Jvm.ClassFile.FieldType.int) [((0 : Nat), (10 : Nat), (13 : Nat), (24 : Nat))]) ∈ lw_all := lw_g (lw_at lw_m3 212 rfl) rfl
theorem q766 : (Jvm.Cond.methodLink "PassportOfficeLaw" (26 : Nat) ({ cls := "PassportOffice", name := "sign", desc := "(II)I" } : Jvm.MethodName)) ∈ lw_all := lw_g (lw_at lw_m3 213 rfl) rfl
theorem q770 : (Jvm.Cond.methodLink "PassportOfficeLaw" (152 : Nat) ({ cls := "PassportOfficeLaw", name := "figure", desc := "(LPassportOffice;I[J)I" } : Jvm.MethodName)) ∈ lw_all := lw_g (lw_at lw_m3 217 rfl) rfl
theorem q771 : (Jvm.Cond.static ({ cls := "PassportOfficeLaw", name := "figure", desc := "(LPassportOffice;I[J)I" } : Jvm.MethodName)) ∈ lw_all := lw_g (lw_at lw_m3 218 rfl) rfl
theorem q772 : (Jvm.Cond.codeWith ({ cls := "PassportOfficeLaw", name := "figure", desc := "(LPassportOffice;I[J)I" } : Jvm.MethodName) method_7_code (4 : Nat) (Option.some Jvm.ClassFile.FieldType.int) [((0 : Nat), (9 : Nat), (12 : Nat), (24 : Nat))]) ∈ lw_all := lw_g (lw_at lw_m3 219 rfl) rfl
theorem q773 : (Jvm.Cond.methodLink "PassportOfficeLaw" (30 : Nat) ({ cls := "PassportOffice", name := "figure", desc := "(I)I" } : Jvm.MethodName)) ∈ lw_all := lw_g (lw_at lw_m3 220 rfl) rfl
theorem q777 : (Jvm.Cond.methodLink "PassportOfficeLaw" (155 : Nat) ({ cls := "PassportOfficeLaw", name := "far", desc := "(LPassportOffice;II[J)I" } : Jvm.MethodName)) ∈ lw_all := lw_g (lw_at lw_m3 224 rfl) rfl
theorem q778 : (Jvm.Cond.static ({ cls := "PassportOfficeLaw", name := "far", desc := "(LPassportOffice;II[J)I" } : Jvm.MethodName)) ∈ lw_all := lw_g (lw_at lw_m3 225 rfl) rfl
theorem q779 : (Jvm.Cond.codeWith ({ cls := "PassportOfficeLaw", name := "far", desc := "(LPassportOffice;II[J)I" } : Jvm.MethodName) method_8_code (5 : Nat) (Option.some Jvm.ClassFile.FieldType.int) [((0 : Nat), (10 : Nat), (13 : Nat), (24 : Nat))]) ∈ lw_all := lw_g (lw_at lw_m3 226 rfl) rfl
theorem q780 : (Jvm.Cond.methodLink "PassportOfficeLaw" (33 : Nat) ({ cls := "PassportOffice", name := "far", desc := "(II)I" } : Jvm.MethodName)) ∈ lw_all := lw_g (lw_at lw_m3 227 rfl) rfl
theorem q788 : (Jvm.Cond.methodLink "PassportOfficeLaw" (158 : Nat) ({ cls := "PassportOfficeLaw", name := "tell", desc := "(LPassportOffice;IIZ[J)I" } : Jvm.MethodName)) ∈ lw_all := lw_g (lw_at lw_m3 235 rfl) rfl
theorem q789 : (Jvm.Cond.static ({ cls := "PassportOfficeLaw", name := "tell", desc := "(LPassportOffice;IIZ[J)I" } : Jvm.MethodName)) ∈ lw_all := lw_g (lw_at lw_m3 236 rfl) rfl
theorem q790 : (Jvm.Cond.codeWith ({ cls := "PassportOfficeLaw", name := "tell", desc := "(LPassportOffice;IIZ[J)I" } : Jvm.MethodName) method_9_code (6 : Nat) (Option.some Jvm.ClassFile.FieldType.int) [((0 : Nat), (12 : Nat), (15 : Nat), (24 : Nat)), ((0 : Nat), (12 : Nat), (19 : Nat), (13 : Nat))]) ∈ lw_all := lw_g (lw_at lw_m3 237 rfl) rfl
theorem q791 : (Jvm.Cond.methodLink "PassportOfficeLaw" (36 : Nat) ({ cls := "PassportOffice", name := "tell", desc := "(IIZ)I" } : Jvm.MethodName)) ∈ lw_all := lw_g (lw_at lw_m3 238 rfl) rfl
theorem q803 : (Jvm.Cond.methodLink "PassportOfficeLaw" (162 : Nat) ({ cls := "PassportOfficeLaw", name := "judge", desc := "(LPassportOffice;IIIZI[J)I" } : Jvm.MethodName)) ∈ lw_all := lw_g (lw_at lw_m4 10 rfl) rfl
theorem q804 : (Jvm.Cond.static ({ cls := "PassportOfficeLaw", name := "judge", desc := "(LPassportOffice;IIIZI[J)I" } : Jvm.MethodName)) ∈ lw_all := lw_g (lw_at lw_m4 11 rfl) rfl
theorem q805 : (Jvm.Cond.codeWith ({ cls := "PassportOfficeLaw", name := "judge", desc := "(LPassportOffice;IIIZI[J)I" } : Jvm.MethodName) method_10_code (8 : Nat) (Option.some Jvm.ClassFile.FieldType.int) [((0 : Nat), (16 : Nat), (19 : Nat), (24 : Nat)), ((0 : Nat), (16 : Nat), (23 : Nat), (13 : Nat)), ((0 : Nat), (16 : Nat), (27 : Nat), (44 : Nat))]) ∈ lw_all := lw_g (lw_at lw_m4 12 rfl) rfl
theorem q806 : (Jvm.Cond.classLink "PassportOfficeLaw" (44 : Nat) "java/util/NoSuchElementException") ∈ lw_all := lw_g (lw_at lw_m4 13 rfl) rfl
theorem q807 : (Jvm.Cond.methodLink "PassportOfficeLaw" (40 : Nat) ({ cls := "PassportOffice", name := "judge", desc := "(IIIZI)I" } : Jvm.MethodName)) ∈ lw_all := lw_g (lw_at lw_m4 14 rfl) rfl
theorem q901 : (Jvm.Cond.methodLink "PassportOfficeLaw" (166 : Nat) ({ cls := "PassportOfficeLaw", name := "ask", desc := "(LPassportOffice;IIIIZ[J)I" } : Jvm.MethodName)) ∈ lw_all := lw_g (lw_at lw_m4 108 rfl) rfl
theorem q902 : (Jvm.Cond.static ({ cls := "PassportOfficeLaw", name := "ask", desc := "(LPassportOffice;IIIIZ[J)I" } : Jvm.MethodName)) ∈ lw_all := lw_g (lw_at lw_m4 109 rfl) rfl
theorem q903 : (Jvm.Cond.codeWith ({ cls := "PassportOfficeLaw", name := "ask", desc := "(LPassportOffice;IIIIZ[J)I" } : Jvm.MethodName) method_11_code (8 : Nat) (Option.some Jvm.ClassFile.FieldType.int) [((0 : Nat), (16 : Nat), (19 : Nat), (24 : Nat)), ((0 : Nat), (16 : Nat), (23 : Nat), (13 : Nat)), ((0 : Nat), (16 : Nat), (27 : Nat), (15 : Nat))]) ∈ lw_all := lw_g (lw_at lw_m4 110 rfl) rfl
theorem q904 : (Jvm.Cond.methodLink "PassportOfficeLaw" (46 : Nat) ({ cls := "PassportOffice", name := "ask", desc := "(IIIIZ)I" } : Jvm.MethodName)) ∈ lw_all := lw_g (lw_at lw_m4 111 rfl) rfl
theorem q984 : (Jvm.Cond.methodLink "PassportOfficeLaw" (170 : Nat) ({ cls := "PassportOfficeLaw", name := "give", desc := "(LPassportOffice;II[J)I" } : Jvm.MethodName)) ∈ lw_all := lw_g (lw_at lw_m4 191 rfl) rfl
theorem q985 : (Jvm.Cond.static ({ cls := "PassportOfficeLaw", name := "give", desc := "(LPassportOffice;II[J)I" } : Jvm.MethodName)) ∈ lw_all := lw_g (lw_at lw_m4 192 rfl) rfl
theorem q986 : (Jvm.Cond.codeWith ({ cls := "PassportOfficeLaw", name := "give", desc := "(LPassportOffice;II[J)I" } : Jvm.MethodName) method_12_code (5 : Nat) (Option.some Jvm.ClassFile.FieldType.int) [((0 : Nat), (10 : Nat), (13 : Nat), (24 : Nat)), ((0 : Nat), (10 : Nat), (17 : Nat), (13 : Nat)), ((0 : Nat), (10 : Nat), (21 : Nat), (53 : Nat))]) ∈ lw_all := lw_g (lw_at lw_m4 193 rfl) rfl
theorem q987 : (Jvm.Cond.classLink "PassportOfficeLaw" (53 : Nat) "java/lang/IllegalStateException") ∈ lw_all := lw_g (lw_at lw_m4 194 rfl) rfl
theorem q988 : (Jvm.Cond.methodLink "PassportOfficeLaw" (50 : Nat) ({ cls := "PassportOffice", name := "give", desc := "(II)I" } : Jvm.MethodName)) ∈ lw_all := lw_g (lw_at lw_m4 195 rfl) rfl
theorem q1017 : (Jvm.Cond.methodLink "PassportOfficeLaw" (173 : Nat) ({ cls := "PassportOfficeLaw", name := "hands", desc := "(LPassportOffice;II)I" } : Jvm.MethodName)) ∈ lw_all := lw_g (lw_at lw_m4 224 rfl) rfl
theorem q1018 : (Jvm.Cond.static ({ cls := "PassportOfficeLaw", name := "hands", desc := "(LPassportOffice;II)I" } : Jvm.MethodName)) ∈ lw_all := lw_g (lw_at lw_m4 225 rfl) rfl
theorem q1019 : (Jvm.Cond.codeWith ({ cls := "PassportOfficeLaw", name := "hands", desc := "(LPassportOffice;II)I" } : Jvm.MethodName) method_13_code (4 : Nat) (Option.some Jvm.ClassFile.FieldType.int) [((0 : Nat), (6 : Nat), (9 : Nat), (24 : Nat)), ((0 : Nat), (6 : Nat), (12 : Nat), (13 : Nat))]) ∈ lw_all := lw_g (lw_at lw_m4 226 rfl) rfl
theorem q1020 : (Jvm.Cond.methodLink "PassportOfficeLaw" (55 : Nat) ({ cls := "PassportOffice", name := "hands", desc := "(II)V" } : Jvm.MethodName)) ∈ lw_all := lw_g (lw_at lw_m4 227 rfl) rfl
theorem q1027 : (Jvm.Cond.methodLink "PassportOfficeLaw" (177 : Nat) ({ cls := "PassportOfficeLaw", name := "lend", desc := "(LPassportOffice;IIIII[J)I" } : Jvm.MethodName)) ∈ lw_all := lw_g (lw_at lw_m4 234 rfl) rfl
theorem q1028 : (Jvm.Cond.static ({ cls := "PassportOfficeLaw", name := "lend", desc := "(LPassportOffice;IIIII[J)I" } : Jvm.MethodName)) ∈ lw_all := lw_g (lw_at lw_m4 235 rfl) rfl
theorem q1029 : (Jvm.Cond.codeWith ({ cls := "PassportOfficeLaw", name := "lend", desc := "(LPassportOffice;IIIII[J)I" } : Jvm.MethodName) method_14_code (8 : Nat) (Option.some Jvm.ClassFile.FieldType.int) [((0 : Nat), (16 : Nat), (19 : Nat), (24 : Nat)), ((0 : Nat), (16 : Nat), (23 : Nat), (13 : Nat))]) ∈ lw_all := lw_g (lw_at lw_m4 236 rfl) rfl
theorem q1030 : (Jvm.Cond.methodLink "PassportOfficeLaw" (59 : Nat) ({ cls := "PassportOffice", name := "lend", desc := "(IIIII)I" } : Jvm.MethodName)) ∈ lw_all := lw_g (lw_at lw_m4 237 rfl) rfl
theorem q1056 : (Jvm.Cond.methodLink "PassportOfficeLaw" (181 : Nat) ({ cls := "PassportOfficeLaw", name := "units", desc := "(LPassportOffice;II[J)I" } : Jvm.MethodName)) ∈ lw_all := lw_g (lw_at lw_m5 23 rfl) rfl
theorem q1057 : (Jvm.Cond.static ({ cls := "PassportOfficeLaw", name := "units", desc := "(LPassportOffice;II[J)I" } : Jvm.MethodName)) ∈ lw_all := lw_g (lw_at lw_m5 24 rfl) rfl
theorem q1058 : (Jvm.Cond.codeWith ({ cls := "PassportOfficeLaw", name := "units", desc := "(LPassportOffice;II[J)I" } : Jvm.MethodName) method_15_code (5 : Nat) (Option.some Jvm.ClassFile.FieldType.int) [((0 : Nat), (10 : Nat), (13 : Nat), (24 : Nat))]) ∈ lw_all := lw_g (lw_at lw_m5 25 rfl) rfl
theorem q1059 : (Jvm.Cond.methodLink "PassportOfficeLaw" (63 : Nat) ({ cls := "PassportOffice", name := "units", desc := "(II)I" } : Jvm.MethodName)) ∈ lw_all := lw_g (lw_at lw_m5 26 rfl) rfl
theorem q1072 : (Jvm.Cond.methodLink "PassportOfficeLaw" (184 : Nat) ({ cls := "PassportOfficeLaw", name := "rules", desc := "(LPassportOffice;IIIII)I" } : Jvm.MethodName)) ∈ lw_all := lw_g (lw_at lw_m5 39 rfl) rfl
theorem q1073 : (Jvm.Cond.static ({ cls := "PassportOfficeLaw", name := "rules", desc := "(LPassportOffice;IIIII)I" } : Jvm.MethodName)) ∈ lw_all := lw_g (lw_at lw_m5 40 rfl) rfl
theorem q1074 : (Jvm.Cond.codeWith ({ cls := "PassportOfficeLaw", name := "rules", desc := "(LPassportOffice;IIIII)I" } : Jvm.MethodName) method_16_code (7 : Nat) (Option.some Jvm.ClassFile.FieldType.int) [((0 : Nat), (11 : Nat), (14 : Nat), (13 : Nat))]) ∈ lw_all := lw_g (lw_at lw_m5 41 rfl) rfl
theorem q1075 : (Jvm.Cond.methodLink "PassportOfficeLaw" (66 : Nat) ({ cls := "PassportOffice", name := "rules", desc := "(IIIII)V" } : Jvm.MethodName)) ∈ lw_all := lw_g (lw_at lw_m5 42 rfl) rfl
theorem q1079 : (Jvm.Cond.methodLink "PassportOfficeLaw" (188 : Nat) ({ cls := "PassportOfficeLaw", name := "order", desc := "(LPassportOffice;I)I" } : Jvm.MethodName)) ∈ lw_all := lw_g (lw_at lw_m5 46 rfl) rfl
theorem q1080 : (Jvm.Cond.static ({ cls := "PassportOfficeLaw", name := "order", desc := "(LPassportOffice;I)I" } : Jvm.MethodName)) ∈ lw_all := lw_g (lw_at lw_m5 47 rfl) rfl
theorem q1081 : (Jvm.Cond.codeWith ({ cls := "PassportOfficeLaw", name := "order", desc := "(LPassportOffice;I)I" } : Jvm.MethodName) method_17_code (3 : Nat) (Option.some Jvm.ClassFile.FieldType.int) [((0 : Nat), (5 : Nat), (8 : Nat), (13 : Nat))]) ∈ lw_all := lw_g (lw_at lw_m5 48 rfl) rfl
theorem q1082 : (Jvm.Cond.methodLink "PassportOfficeLaw" (70 : Nat) ({ cls := "PassportOffice", name := "order", desc := "(I)V" } : Jvm.MethodName)) ∈ lw_all := lw_g (lw_at lw_m5 49 rfl) rfl
theorem q1086 : (Jvm.Cond.methodLink "PassportOfficeLaw" (192 : Nat) ({ cls := "PassportOfficeLaw", name := "blanks", desc := "(LPassportOffice;I[J)I" } : Jvm.MethodName)) ∈ lw_all := lw_g (lw_at lw_m5 53 rfl) rfl
theorem q1087 : (Jvm.Cond.static ({ cls := "PassportOfficeLaw", name := "blanks", desc := "(LPassportOffice;I[J)I" } : Jvm.MethodName)) ∈ lw_all := lw_g (lw_at lw_m5 54 rfl) rfl
theorem q1088 : (Jvm.Cond.codeWith ({ cls := "PassportOfficeLaw", name := "blanks", desc := "(LPassportOffice;I[J)I" } : Jvm.MethodName) method_18_code (4 : Nat) (Option.some Jvm.ClassFile.FieldType.int) [((0 : Nat), (9 : Nat), (12 : Nat), (13 : Nat))]) ∈ lw_all := lw_g (lw_at lw_m5 55 rfl) rfl
theorem q1089 : (Jvm.Cond.methodLink "PassportOfficeLaw" (74 : Nat) ({ cls := "PassportOffice", name := "blanks", desc := "(I)I" } : Jvm.MethodName)) ∈ lw_all := lw_g (lw_at lw_m5 56 rfl) rfl
theorem q1093 : (Jvm.Cond.methodLink "PassportOfficeLaw" (195 : Nat) ({ cls := "PassportOfficeLaw", name := "broken", desc := "(LPassportOffice;II)I" } : Jvm.MethodName)) ∈ lw_all := lw_g (lw_at lw_m5 60 rfl) rfl
theorem q1094 : (Jvm.Cond.static ({ cls := "PassportOfficeLaw", name := "broken", desc := "(LPassportOffice;II)I" } : Jvm.MethodName)) ∈ lw_all := lw_g (lw_at lw_m5 61 rfl) rfl
theorem q1095 : (Jvm.Cond.codeWith ({ cls := "PassportOfficeLaw", name := "broken", desc := "(LPassportOffice;II)I" } : Jvm.MethodName) method_19_code (4 : Nat) (Option.some Jvm.ClassFile.FieldType.int) [((0 : Nat), (6 : Nat), (9 : Nat), (13 : Nat))]) ∈ lw_all := lw_g (lw_at lw_m5 62 rfl) rfl
theorem q1096 : (Jvm.Cond.methodLink "PassportOfficeLaw" (77 : Nat) ({ cls := "PassportOffice", name := "broken", desc := "(II)V" } : Jvm.MethodName)) ∈ lw_all := lw_g (lw_at lw_m5 63 rfl) rfl
theorem q1100 : (Jvm.Cond.methodLink "PassportOfficeLaw" (198 : Nat) ({ cls := "PassportOfficeLaw", name := "days", desc := "(LPassportOffice;I[J)I" } : Jvm.MethodName)) ∈ lw_all := lw_g (lw_at lw_m5 67 rfl) rfl
theorem q1101 : (Jvm.Cond.static ({ cls := "PassportOfficeLaw", name := "days", desc := "(LPassportOffice;I[J)I" } : Jvm.MethodName)) ∈ lw_all := lw_g (lw_at lw_m5 68 rfl) rfl
theorem q1102 : (Jvm.Cond.codeWith ({ cls := "PassportOfficeLaw", name := "days", desc := "(LPassportOffice;I[J)I" } : Jvm.MethodName) method_20_code (4 : Nat) (Option.some Jvm.ClassFile.FieldType.int) [((0 : Nat), (9 : Nat), (12 : Nat), (13 : Nat))]) ∈ lw_all := lw_g (lw_at lw_m5 69 rfl) rfl
theorem q1103 : (Jvm.Cond.methodLink "PassportOfficeLaw" (80 : Nat) ({ cls := "PassportOffice", name := "days", desc := "(I)I" } : Jvm.MethodName)) ∈ lw_all := lw_g (lw_at lw_m5 70 rfl) rfl
theorem q1171 : (Jvm.Cond.methodLink "PassportOfficeLaw" (201 : Nat) ({ cls := "PassportOfficeLaw", name := "refuse", desc := "(LPassportOffice;I)I" } : Jvm.MethodName)) ∈ lw_all := lw_g (lw_at lw_m5 138 rfl) rfl
theorem q1172 : (Jvm.Cond.static ({ cls := "PassportOfficeLaw", name := "refuse", desc := "(LPassportOffice;I)I" } : Jvm.MethodName)) ∈ lw_all := lw_g (lw_at lw_m5 139 rfl) rfl
theorem q1173 : (Jvm.Cond.codeWith ({ cls := "PassportOfficeLaw", name := "refuse", desc := "(LPassportOffice;I)I" } : Jvm.MethodName) method_21_code (3 : Nat) (Option.some Jvm.ClassFile.FieldType.int) [((0 : Nat), (5 : Nat), (8 : Nat), (24 : Nat)), ((0 : Nat), (5 : Nat), (11 : Nat), (53 : Nat))]) ∈ lw_all := lw_g (lw_at lw_m5 140 rfl) rfl
theorem q1174 : (Jvm.Cond.methodLink "PassportOfficeLaw" (83 : Nat) ({ cls := "PassportOffice", name := "refuse", desc := "(I)V" } : Jvm.MethodName)) ∈ lw_all := lw_g (lw_at lw_m5 141 rfl) rfl
theorem q1178 : (Jvm.Cond.methodLink "PassportOfficeLaw" (204 : Nat) ({ cls := "PassportOfficeLaw", name := "lose", desc := "(LPassportOffice;I)I" } : Jvm.MethodName)) ∈ lw_all := lw_g (lw_at lw_m5 145 rfl) rfl
theorem q1179 : (Jvm.Cond.static ({ cls := "PassportOfficeLaw", name := "lose", desc := "(LPassportOffice;I)I" } : Jvm.MethodName)) ∈ lw_all := lw_g (lw_at lw_m5 146 rfl) rfl
theorem q1180 : (Jvm.Cond.codeWith ({ cls := "PassportOfficeLaw", name := "lose", desc := "(LPassportOffice;I)I" } : Jvm.MethodName) method_22_code (3 : Nat) (Option.some Jvm.ClassFile.FieldType.int) [((0 : Nat), (5 : Nat), (8 : Nat), (24 : Nat)), ((0 : Nat), (5 : Nat), (11 : Nat), (53 : Nat))]) ∈ lw_all := lw_g (lw_at lw_m5 147 rfl) rfl
theorem q1181 : (Jvm.Cond.methodLink "PassportOfficeLaw" (86 : Nat) ({ cls := "PassportOffice", name := "lose", desc := "(I)V" } : Jvm.MethodName)) ∈ lw_all := lw_g (lw_at lw_m5 148 rfl) rfl
theorem q1186 : (Jvm.Cond.methodLink "PassportOfficeLaw" (207 : Nat) ({ cls := "PassportOfficeLaw", name := "again", desc := "(LPassportOffice;I)I" } : Jvm.MethodName)) ∈ lw_all := lw_g (lw_at lw_m5 153 rfl) rfl
theorem q1187 : (Jvm.Cond.static ({ cls := "PassportOfficeLaw", name := "again", desc := "(LPassportOffice;I)I" } : Jvm.MethodName)) ∈ lw_all := lw_g (lw_at lw_m5 154 rfl) rfl
theorem q1188 : (Jvm.Cond.codeWith ({ cls := "PassportOfficeLaw", name := "again", desc := "(LPassportOffice;I)I" } : Jvm.MethodName) method_23_code (3 : Nat) (Option.some Jvm.ClassFile.FieldType.int) [((0 : Nat), (5 : Nat), (8 : Nat), (24 : Nat)), ((0 : Nat), (5 : Nat), (11 : Nat), (53 : Nat))]) ∈ lw_all := lw_g (lw_at lw_m5 155 rfl) rfl
theorem q1189 : (Jvm.Cond.methodLink "PassportOfficeLaw" (89 : Nat) ({ cls := "PassportOffice", name := "again", desc := "(I)V" } : Jvm.MethodName)) ∈ lw_all := lw_g (lw_at lw_m5 156 rfl) rfl
theorem q1193 : (Jvm.Cond.methodLink "PassportOfficeLaw" (210 : Nat) ({ cls := "PassportOfficeLaw", name := "led", desc := "(LPassportOffice;II[J)I" } : Jvm.MethodName)) ∈ lw_all := lw_g (lw_at lw_m5 160 rfl) rfl
theorem q1194 : (Jvm.Cond.static ({ cls := "PassportOfficeLaw", name := "led", desc := "(LPassportOffice;II[J)I" } : Jvm.MethodName)) ∈ lw_all := lw_g (lw_at lw_m5 161 rfl) rfl
theorem q1195 : (Jvm.Cond.codeWith ({ cls := "PassportOfficeLaw", name := "led", desc := "(LPassportOffice;II[J)I" } : Jvm.MethodName) method_24_code (5 : Nat) (Option.some Jvm.ClassFile.FieldType.int) [((0 : Nat), (10 : Nat), (13 : Nat), (24 : Nat)), ((0 : Nat), (10 : Nat), (17 : Nat), (44 : Nat))]) ∈ lw_all := lw_g (lw_at lw_m5 162 rfl) rfl
theorem q1196 : (Jvm.Cond.methodLink "PassportOfficeLaw" (92 : Nat) ({ cls := "PassportOffice", name := "led", desc := "(II)I" } : Jvm.MethodName)) ∈ lw_all := lw_g (lw_at lw_m5 163 rfl) rfl
theorem q1200 : (Jvm.Cond.methodLink "PassportOfficeLaw" (213 : Nat) ({ cls := "PassportOfficeLaw", name := "queue", desc := "(LPassportOffice;I[J)I" } : Jvm.MethodName)) ∈ lw_all := lw_g (lw_at lw_m5 167 rfl) rfl
theorem q1201 : (Jvm.Cond.static ({ cls := "PassportOfficeLaw", name := "queue", desc := "(LPassportOffice;I[J)I" } : Jvm.MethodName)) ∈ lw_all := lw_g (lw_at lw_m5 168 rfl) rfl
theorem q1202 : (Jvm.Cond.codeWith ({ cls := "PassportOfficeLaw", name := "queue", desc := "(LPassportOffice;I[J)I" } : Jvm.MethodName) method_25_code (4 : Nat) (Option.some Jvm.ClassFile.FieldType.int) [((0 : Nat), (9 : Nat), (12 : Nat), (24 : Nat))]) ∈ lw_all := lw_g (lw_at lw_m5 169 rfl) rfl
theorem q1203 : (Jvm.Cond.methodLink "PassportOfficeLaw" (95 : Nat) ({ cls := "PassportOffice", name := "queue", desc := "(I)I" } : Jvm.MethodName)) ∈ lw_all := lw_g (lw_at lw_m5 170 rfl) rfl
theorem q1207 : (Jvm.Cond.methodLink "PassportOfficeLaw" (216 : Nat) ({ cls := "PassportOfficeLaw", name := "ahead", desc := "(LPassportOffice;I[J)I" } : Jvm.MethodName)) ∈ lw_all := lw_g (lw_at lw_m5 174 rfl) rfl
theorem q1208 : (Jvm.Cond.static ({ cls := "PassportOfficeLaw", name := "ahead", desc := "(LPassportOffice;I[J)I" } : Jvm.MethodName)) ∈ lw_all := lw_g (lw_at lw_m5 175 rfl) rfl
theorem q1209 : (Jvm.Cond.codeWith ({ cls := "PassportOfficeLaw", name := "ahead", desc := "(LPassportOffice;I[J)I" } : Jvm.MethodName) method_26_code (4 : Nat) (Option.some Jvm.ClassFile.FieldType.int) [((0 : Nat), (9 : Nat), (12 : Nat), (24 : Nat))]) ∈ lw_all := lw_g (lw_at lw_m5 176 rfl) rfl
theorem q1210 : (Jvm.Cond.methodLink "PassportOfficeLaw" (98 : Nat) ({ cls := "PassportOffice", name := "ahead", desc := "(I)I" } : Jvm.MethodName)) ∈ lw_all := lw_g (lw_at lw_m5 177 rfl) rfl
theorem q1214 : (Jvm.Cond.methodLink "PassportOfficeLaw" (219 : Nat) ({ cls := "PassportOfficeLaw", name := "booklet", desc := "(LPassportOffice;II[J)I" } : Jvm.MethodName)) ∈ lw_all := lw_g (lw_at lw_m5 181 rfl) rfl
theorem q1215 : (Jvm.Cond.static ({ cls := "PassportOfficeLaw", name := "booklet", desc := "(LPassportOffice;II[J)I" } : Jvm.MethodName)) ∈ lw_all := lw_g (lw_at lw_m5 182 rfl) rfl
theorem q1216 : (Jvm.Cond.codeWith ({ cls := "PassportOfficeLaw", name := "booklet", desc := "(LPassportOffice;II[J)I" } : Jvm.MethodName) method_27_code (5 : Nat) (Option.some Jvm.ClassFile.FieldType.int) [((0 : Nat), (10 : Nat), (13 : Nat), (24 : Nat)), ((0 : Nat), (10 : Nat), (17 : Nat), (44 : Nat))]) ∈ lw_all := lw_g (lw_at lw_m5 183 rfl) rfl
theorem q1217 : (Jvm.Cond.methodLink "PassportOfficeLaw" (101 : Nat) ({ cls := "PassportOffice", name := "booklet", desc := "(II)I" } : Jvm.MethodName)) ∈ lw_all := lw_g (lw_at lw_m5 184 rfl) rfl
theorem q1221 : (Jvm.Cond.methodLink "PassportOfficeLaw" (222 : Nat) ({ cls := "PassportOfficeLaw", name := "valid", desc := "(LPassportOffice;II[J)I" } : Jvm.MethodName)) ∈ lw_all := lw_g (lw_at lw_m5 188 rfl) rfl
theorem q1222 : (Jvm.Cond.static ({ cls := "PassportOfficeLaw", name := "valid", desc := "(LPassportOffice;II[J)I" } : Jvm.MethodName)) ∈ lw_all := lw_g (lw_at lw_m5 189 rfl) rfl
theorem q1223 : (Jvm.Cond.codeWith ({ cls := "PassportOfficeLaw", name := "valid", desc := "(LPassportOffice;II[J)I" } : Jvm.MethodName) method_28_code (5 : Nat) (Option.some Jvm.ClassFile.FieldType.int) [((0 : Nat), (10 : Nat), (13 : Nat), (24 : Nat))]) ∈ lw_all := lw_g (lw_at lw_m5 190 rfl) rfl
theorem q1224 : (Jvm.Cond.methodLink "PassportOfficeLaw" (104 : Nat) ({ cls := "PassportOffice", name := "valid", desc := "(II)I" } : Jvm.MethodName)) ∈ lw_all := lw_g (lw_at lw_m5 191 rfl) rfl
theorem q1228 : (Jvm.Cond.methodLink "PassportOfficeLaw" (225 : Nat) ({ cls := "PassportOfficeLaw", name := "missed", desc := "(LPassportOffice;II[J)I" } : Jvm.MethodName)) ∈ lw_all := lw_g (lw_at lw_m5 195 rfl) rfl
theorem q1229 : (Jvm.Cond.static ({ cls := "PassportOfficeLaw", name := "missed", desc := "(LPassportOffice;II[J)I" } : Jvm.MethodName)) ∈ lw_all := lw_g (lw_at lw_m5 196 rfl) rfl
theorem q1230 : (Jvm.Cond.codeWith ({ cls := "PassportOfficeLaw", name := "missed", desc := "(LPassportOffice;II[J)I" } : Jvm.MethodName) method_29_code (5 : Nat) (Option.some Jvm.ClassFile.FieldType.int) [((0 : Nat), (10 : Nat), (13 : Nat), (13 : Nat))]) ∈ lw_all := lw_g (lw_at lw_m5 197 rfl) rfl
theorem q1231 : (Jvm.Cond.methodLink "PassportOfficeLaw" (107 : Nat) ({ cls := "PassportOffice", name := "missed", desc := "(II)I" } : Jvm.MethodName)) ∈ lw_all := lw_g (lw_at lw_m5 198 rfl) rfl
theorem q1244 : (Jvm.Cond.methodLink "PassportOfficeLaw" (228 : Nat) ({ cls := "PassportOfficeLaw", name := "waits", desc := "(LPassportOffice;IZ[J)I" } : Jvm.MethodName)) ∈ lw_all := lw_g (lw_at lw_m5 211 rfl) rfl
theorem q1245 : (Jvm.Cond.static ({ cls := "PassportOfficeLaw", name := "waits", desc := "(LPassportOffice;IZ[J)I" } : Jvm.MethodName)) ∈ lw_all := lw_g (lw_at lw_m5 212 rfl) rfl
theorem q1246 : (Jvm.Cond.codeWith ({ cls := "PassportOfficeLaw", name := "waits", desc := "(LPassportOffice;IZ[J)I" } : Jvm.MethodName) method_30_code (5 : Nat) (Option.some Jvm.ClassFile.FieldType.int) [((0 : Nat), (10 : Nat), (13 : Nat), (13 : Nat))]) ∈ lw_all := lw_g (lw_at lw_m5 213 rfl) rfl
theorem q1247 : (Jvm.Cond.methodLink "PassportOfficeLaw" (110 : Nat) ({ cls := "PassportOffice", name := "waits", desc := "(IZ)I" } : Jvm.MethodName)) ∈ lw_all := lw_g (lw_at lw_m5 214 rfl) rfl
theorem q1255 : (Jvm.Cond.classLink "PassportOfficeLaw" (115 : Nat) "PassportOfficeModel") ∈ lw_all := lw_g (lw_at lw_m5 222 rfl) rfl
theorem q1257 : (Jvm.Cond.methodLink "PassportOfficeLaw" (117 : Nat) ({ cls := "PassportOfficeModel", name := "<init>", desc := "()V" } : Jvm.MethodName)) ∈ lw_all := lw_g (lw_at lw_m5 224 rfl) rfl
theorem q1512 : (Jvm.Cond.methodLink "PassportOfficeLaw" (133 : Nat) ({ cls := "PassportOfficeModel", name := "thrown", desc := "()I" } : Jvm.MethodName)) ∈ lw_all := lw_g (lw_at lw_m6 239 rfl) rfl
theorem q1516 : (Jvm.Cond.methodLink "PassportOfficeLaw" (121 : Nat) ({ cls := "PassportOfficeModel", name := "feed", desc := "(IIIII)I" } : Jvm.MethodName)) ∈ lw_all := lw_g (lw_at lw_m7 3 rfl) rfl
theorem q1520 : (Jvm.Cond.methodLink "PassportOfficeLaw" (126 : Nat) ({ cls := "PassportOfficeModel", name := "end", desc := "(I)Z" } : Jvm.MethodName)) ∈ lw_all := lw_g (lw_at lw_m7 7 rfl) rfl
theorem q1524 : (Jvm.Cond.methodLink "PassportOfficeLaw" (140 : Nat) ({ cls := "PassportOfficeModel", name := "fault", desc := "()I" } : Jvm.MethodName)) ∈ lw_all := lw_g (lw_at lw_m7 11 rfl) rfl
theorem q1528 : (Jvm.Cond.methodLink "PassportOfficeLaw" (132 : Nat) ({ cls := "PassportOfficeModel", name := "law", desc := "(I)I" } : Jvm.MethodName)) ∈ lw_all := lw_g (lw_at lw_m7 15 rfl) rfl
theorem q1630 : (Jvm.Cond.methodLink "PassportOfficeLaw" (144 : Nat) ({ cls := "PassportOfficeModel", name := "person", desc := "(IZIIIII)I" } : Jvm.MethodName)) ∈ lw_all := lw_g (lw_at lw_m7 117 rfl) rfl
theorem q1638 : (Jvm.Cond.methodLink "PassportOfficeLaw" (147 : Nat) ({ cls := "PassportOfficeModel", name := "name", desc := "(I)I" } : Jvm.MethodName)) ∈ lw_all := lw_g (lw_at lw_m7 125 rfl) rfl
theorem q1656 : (Jvm.Cond.methodLink "PassportOfficeLaw" (151 : Nat) ({ cls := "PassportOfficeModel", name := "sign", desc := "(II)I" } : Jvm.MethodName)) ∈ lw_all := lw_g (lw_at lw_m7 143 rfl) rfl
theorem q1660 : (Jvm.Cond.methodLink "PassportOfficeLaw" (154 : Nat) ({ cls := "PassportOfficeModel", name := "figure", desc := "(I)I" } : Jvm.MethodName)) ∈ lw_all := lw_g (lw_at lw_m7 147 rfl) rfl
theorem q1664 : (Jvm.Cond.methodLink "PassportOfficeLaw" (157 : Nat) ({ cls := "PassportOfficeModel", name := "far", desc := "(II)I" } : Jvm.MethodName)) ∈ lw_all := lw_g (lw_at lw_m7 151 rfl) rfl
theorem q1672 : (Jvm.Cond.methodLink "PassportOfficeLaw" (176 : Nat) ({ cls := "PassportOfficeModel", name := "hands", desc := "(II)V" } : Jvm.MethodName)) ∈ lw_all := lw_g (lw_at lw_m7 159 rfl) rfl
theorem q1679 : (Jvm.Cond.methodLink "PassportOfficeLaw" (180 : Nat) ({ cls := "PassportOfficeModel", name := "lend", desc := "(IIIII)I" } : Jvm.MethodName)) ∈ lw_all := lw_g (lw_at lw_m7 166 rfl) rfl
theorem q1683 : (Jvm.Cond.methodLink "PassportOfficeLaw" (183 : Nat) ({ cls := "PassportOfficeModel", name := "units", desc := "(II)I" } : Jvm.MethodName)) ∈ lw_all := lw_g (lw_at lw_m7 170 rfl) rfl
theorem q1692 : (Jvm.Cond.methodLink "PassportOfficeLaw" (187 : Nat) ({ cls := "PassportOfficeModel", name := "rules", desc := "(IIIII)V" } : Jvm.MethodName)) ∈ lw_all := lw_g (lw_at lw_m7 179 rfl) rfl
theorem q1696 : (Jvm.Cond.methodLink "PassportOfficeLaw" (191 : Nat) ({ cls := "PassportOfficeModel", name := "order", desc := "(I)V" } : Jvm.MethodName)) ∈ lw_all := lw_g (lw_at lw_m7 183 rfl) rfl
theorem q1700 : (Jvm.Cond.methodLink "PassportOfficeLaw" (194 : Nat) ({ cls := "PassportOfficeModel", name := "blanks", desc := "(I)I" } : Jvm.MethodName)) ∈ lw_all := lw_g (lw_at lw_m7 187 rfl) rfl
theorem q1704 : (Jvm.Cond.methodLink "PassportOfficeLaw" (197 : Nat) ({ cls := "PassportOfficeModel", name := "broken", desc := "(II)V" } : Jvm.MethodName)) ∈ lw_all := lw_g (lw_at lw_m7 191 rfl) rfl
theorem q1708 : (Jvm.Cond.methodLink "PassportOfficeLaw" (165 : Nat) ({ cls := "PassportOfficeModel", name := "judge", desc := "(IIIZI)I" } : Jvm.MethodName)) ∈ lw_all := lw_g (lw_at lw_m7 195 rfl) rfl
theorem q1736 : (Jvm.Cond.methodLink "PassportOfficeLaw" (169 : Nat) ({ cls := "PassportOfficeModel", name := "ask", desc := "(IIIIZ)I" } : Jvm.MethodName)) ∈ lw_all := lw_g (lw_at lw_m7 223 rfl) rfl
theorem q1744 : (Jvm.Cond.methodLink "PassportOfficeLaw" (172 : Nat) ({ cls := "PassportOfficeModel", name := "give", desc := "(II)I" } : Jvm.MethodName)) ∈ lw_all := lw_g (lw_at lw_m7 231 rfl) rfl
theorem q1760 : (Jvm.Cond.methodLink "PassportOfficeLaw" (161 : Nat) ({ cls := "PassportOfficeModel", name := "tell", desc := "(IIZ)I" } : Jvm.MethodName)) ∈ lw_all := lw_g (lw_at lw_m8 7 rfl) rfl
theorem q1768 : (Jvm.Cond.methodLink "PassportOfficeLaw" (200 : Nat) ({ cls := "PassportOfficeModel", name := "days", desc := "(I)I" } : Jvm.MethodName)) ∈ lw_all := lw_g (lw_at lw_m8 15 rfl) rfl
theorem q1815 : (Jvm.Cond.methodLink "PassportOfficeLaw" (203 : Nat) ({ cls := "PassportOfficeModel", name := "refuse", desc := "(I)V" } : Jvm.MethodName)) ∈ lw_all := lw_g (lw_at lw_m8 62 rfl) rfl
theorem q1819 : (Jvm.Cond.methodLink "PassportOfficeLaw" (206 : Nat) ({ cls := "PassportOfficeModel", name := "lose", desc := "(I)V" } : Jvm.MethodName)) ∈ lw_all := lw_g (lw_at lw_m8 66 rfl) rfl
theorem q1823 : (Jvm.Cond.methodLink "PassportOfficeLaw" (209 : Nat) ({ cls := "PassportOfficeModel", name := "again", desc := "(I)V" } : Jvm.MethodName)) ∈ lw_all := lw_g (lw_at lw_m8 70 rfl) rfl
theorem q1827 : (Jvm.Cond.methodLink "PassportOfficeLaw" (212 : Nat) ({ cls := "PassportOfficeModel", name := "led", desc := "(II)I" } : Jvm.MethodName)) ∈ lw_all := lw_g (lw_at lw_m8 74 rfl) rfl
theorem q1831 : (Jvm.Cond.methodLink "PassportOfficeLaw" (215 : Nat) ({ cls := "PassportOfficeModel", name := "queue", desc := "(I)I" } : Jvm.MethodName)) ∈ lw_all := lw_g (lw_at lw_m8 78 rfl) rfl
theorem q1835 : (Jvm.Cond.methodLink "PassportOfficeLaw" (218 : Nat) ({ cls := "PassportOfficeModel", name := "ahead", desc := "(I)I" } : Jvm.MethodName)) ∈ lw_all := lw_g (lw_at lw_m8 82 rfl) rfl
theorem q1839 : (Jvm.Cond.methodLink "PassportOfficeLaw" (221 : Nat) ({ cls := "PassportOfficeModel", name := "booklet", desc := "(II)I" } : Jvm.MethodName)) ∈ lw_all := lw_g (lw_at lw_m8 86 rfl) rfl
theorem q1843 : (Jvm.Cond.methodLink "PassportOfficeLaw" (224 : Nat) ({ cls := "PassportOfficeModel", name := "valid", desc := "(II)I" } : Jvm.MethodName)) ∈ lw_all := lw_g (lw_at lw_m8 90 rfl) rfl
theorem q1847 : (Jvm.Cond.methodLink "PassportOfficeLaw" (227 : Nat) ({ cls := "PassportOfficeModel", name := "missed", desc := "(II)I" } : Jvm.MethodName)) ∈ lw_all := lw_g (lw_at lw_m8 94 rfl) rfl
theorem q1851 : (Jvm.Cond.methodLink "PassportOfficeLaw" (231 : Nat) ({ cls := "PassportOfficeModel", name := "waits", desc := "(IZ)I" } : Jvm.MethodName)) ∈ lw_all := lw_g (lw_at lw_m8 98 rfl) rfl
theorem q1855 : (Jvm.Cond.methodLink "PassportOfficeLaw" (235 : Nat) ({ cls := "PassportOfficeModel", name := "ends", desc := "(II)I" } : Jvm.MethodName)) ∈ lw_all := lw_g (lw_at lw_m8 102 rfl) rfl
theorem q1859 : (Jvm.Cond.methodLink "PassportOfficeLaw" (239 : Nat) ({ cls := "PassportOfficeModel", name := "count", desc := "(I)I" } : Jvm.MethodName)) ∈ lw_all := lw_g (lw_at lw_m8 106 rfl) rfl
theorem q74 : (Jvm.Cond.initialized "PassportOffice") ∈ lw_all := lw_g (lw_at lw_m1 1 rfl) rfl
theorem q107 : (Jvm.Cond.instantiable "PassportOffice" (29 : Nat)) ∈ lw_all := lw_g (lw_at lw_m1 34 rfl) rfl
theorem q109 : (Jvm.Cond.instanceMethod ({ cls := "PassportOffice", name := "<init>", desc := "()V" } : Jvm.MethodName)) ∈ lw_all := lw_g (lw_at lw_m1 36 rfl) rfl
theorem q110 : (Jvm.Cond.code ({ cls := "PassportOffice", name := "<init>", desc := "()V" } : Jvm.MethodName) prog_1_method_1_code (2 : Nat) (Option.none : Option Jvm.ClassFile.FieldType)) ∈ lw_all := lw_g (lw_at lw_m1 37 rfl) rfl
theorem q111 : (Jvm.Cond.methodLink "PassportOffice" (1 : Nat) ({ cls := "java/lang/Object", name := "<init>", desc := "()V" } : Jvm.MethodName)) ∈ lw_all := lw_g (lw_at lw_m1 38 rfl) rfl
theorem q114 : (Jvm.Cond.classLink "PassportOffice" (7 : Nat) "PassportOffice$Reader") ∈ lw_all := lw_g (lw_at lw_m1 41 rfl) rfl
theorem q116 : (Jvm.Cond.methodLinkNest "PassportOffice" (9 : Nat) ({ cls := "PassportOffice$Reader", name := "<init>", desc := "()V" } : Jvm.MethodName) "PassportOffice") ∈ lw_tbl := lw_at lw_m1 43 rfl
theorem q205 : (Jvm.Cond.fieldLinkNest "PassportOffice" (152 : Nat) "PassportOffice$Wrong" "place" "I" "PassportOffice") ∈ lw_tbl := lw_at lw_m1 132 rfl
theorem q223 : (Jvm.Cond.fieldLinkNest "PassportOffice" (125 : Nat) "PassportOffice$Reader" "tape" "[B" "PassportOffice") ∈ lw_tbl := lw_at lw_m1 150 rfl
theorem q229 : (Jvm.Cond.fieldLinkNest "PassportOffice" (209 : Nat) "PassportOffice$Reader" "turned" "[B" "PassportOffice") ∈ lw_tbl := lw_at lw_m1 156 rfl
theorem q231 : (Jvm.Cond.fieldLinkNest "PassportOffice" (129 : Nat) "PassportOffice$Reader" "size" "I" "PassportOffice") ∈ lw_tbl := lw_at lw_m1 158 rfl
theorem q261 : (Jvm.Cond.classLink "PassportOffice" (16 : Nat) "PassportOffice$Law") ∈ lw_all := lw_g (lw_at lw_m1 188 rfl) rfl
theorem q263 : (Jvm.Cond.classLink "PassportOffice" (22 : Nat) "PassportOffice$Person") ∈ lw_all := lw_g (lw_at lw_m1 190 rfl) rfl
theorem q265 : (Jvm.Cond.classLink "PassportOffice" (28 : Nat) "[[B") ∈ lw_all := lw_g (lw_at lw_m1 192 rfl) rfl
theorem q267 : (Jvm.Cond.classLink "PassportOffice" (33 : Nat) "PassportOffice$Asking") ∈ lw_all := lw_g (lw_at lw_m1 194 rfl) rfl
theorem q269 : (Jvm.Cond.classLink "PassportOffice" (39 : Nat) "PassportOffice$World") ∈ lw_all := lw_g (lw_at lw_m1 196 rfl) rfl
theorem q271 : (Jvm.Cond.methodLinkNest "PassportOffice" (41 : Nat) ({ cls := "PassportOffice$World", name := "<init>", desc := "()V" } : Jvm.MethodName) "PassportOffice") ∈ lw_tbl := lw_at lw_m1 198 rfl
theorem q278 : (Jvm.Cond.fieldLinkNest "PassportOffice" (232 : Nat) "PassportOffice$World" "moves" "[LPassportOffice$Move;" "PassportOffice") ∈ lw_tbl := lw_at lw_m1 205 rfl
theorem q280 : (Jvm.Cond.fieldLinkNest "PassportOffice" (140 : Nat) "PassportOffice$World" "today" "I" "PassportOffice") ∈ lw_tbl := lw_at lw_m1 207 rfl
theorem q282 : (Jvm.Cond.fieldLinkNest "PassportOffice" (353 : Nat) "PassportOffice$World" "blanks" "I" "PassportOffice") ∈ lw_tbl := lw_at lw_m1 209 rfl
theorem q284 : (Jvm.Cond.fieldLinkNest "PassportOffice" (384 : Nat) "PassportOffice$World" "calls" "I" "PassportOffice") ∈ lw_tbl := lw_at lw_m1 211 rfl
theorem q286 : (Jvm.Cond.fieldLinkNest "PassportOffice" (387 : Nat) "PassportOffice$World" "left" "I" "PassportOffice") ∈ lw_tbl := lw_at lw_m1 213 rfl
theorem q288 : (Jvm.Cond.fieldLinkNest "PassportOffice" (167 : Nat) "PassportOffice$World" "booklets" "I" "PassportOffice") ∈ lw_tbl := lw_at lw_m1 215 rfl
theorem q302 : (Jvm.Cond.classLink "PassportOffice" (49 : Nat) "PassportOffice$Booklet") ∈ lw_all := lw_g (lw_at lw_m1 229 rfl) rfl
theorem q304 : (Jvm.Cond.classLink "PassportOffice" (55 : Nat) "PassportOffice$Loan") ∈ lw_all := lw_g (lw_at lw_m1 231 rfl) rfl
theorem q306 : (Jvm.Cond.fieldLink "PassportOffice" (10 : Nat) "PassportOffice" "reader" "LPassportOffice$Reader;") ∈ lw_all := lw_g (lw_at lw_m1 233 rfl) rfl
theorem q307 : (Jvm.Cond.fieldLink "PassportOffice" (18 : Nat) "PassportOffice" "laws" "[LPassportOffice$Law;") ∈ lw_all := lw_g (lw_at lw_m1 234 rfl) rfl
theorem q308 : (Jvm.Cond.fieldLink "PassportOffice" (24 : Nat) "PassportOffice" "people" "[LPassportOffice$Person;") ∈ lw_all := lw_g (lw_at lw_m1 235 rfl) rfl
theorem q309 : (Jvm.Cond.fieldLink "PassportOffice" (30 : Nat) "PassportOffice" "told" "[[B") ∈ lw_all := lw_g (lw_at lw_m1 236 rfl) rfl
theorem q310 : (Jvm.Cond.fieldLink "PassportOffice" (35 : Nat) "PassportOffice" "askings" "[LPassportOffice$Asking;") ∈ lw_all := lw_g (lw_at lw_m1 237 rfl) rfl
theorem q311 : (Jvm.Cond.fieldLink "PassportOffice" (42 : Nat) "PassportOffice" "now" "LPassportOffice$World;") ∈ lw_all := lw_g (lw_at lw_m1 238 rfl) rfl
theorem q312 : (Jvm.Cond.fieldLink "PassportOffice" (46 : Nat) "PassportOffice" "trial" "LPassportOffice$World;") ∈ lw_all := lw_g (lw_at lw_m1 239 rfl) rfl
theorem q313 : (Jvm.Cond.fieldLink "PassportOffice" (51 : Nat) "PassportOffice" "booklets" "[LPassportOffice$Booklet;") ∈ lw_all := lw_g (lw_at lw_m2 0 rfl) rfl
theorem q314 : (Jvm.Cond.fieldLink "PassportOffice" (57 : Nat) "PassportOffice" "loans" "[LPassportOffice$Loan;") ∈ lw_all := lw_g (lw_at lw_m2 1 rfl) rfl
theorem q315 : (Jvm.Cond.fieldLink "PassportOffice" (61 : Nat) "PassportOffice" "hands" "[I") ∈ lw_all := lw_g (lw_at lw_m2 2 rfl) rfl
theorem q316 : (Jvm.Cond.fieldLink "PassportOffice" (65 : Nat) "PassportOffice" "row" "[I") ∈ lw_all := lw_g (lw_at lw_m2 3 rfl) rfl
theorem q317 : (Jvm.Cond.fieldLink "PassportOffice" (68 : Nat) "PassportOffice" "facts" "[I") ∈ lw_all := lw_g (lw_at lw_m2 4 rfl) rfl
theorem q318 : (Jvm.Cond.fieldLink "PassportOffice" (71 : Nat) "PassportOffice" "sizes" "[I") ∈ lw_all := lw_g (lw_at lw_m2 5 rfl) rfl
theorem q319 : (Jvm.Cond.fieldLink "PassportOffice" (155 : Nat) "PassportOffice" "lawMany" "I") ∈ lw_all := lw_g (lw_at lw_m2 6 rfl) rfl
theorem q320 : (Jvm.Cond.fieldLink "PassportOffice" (111 : Nat) "PassportOffice" "peopleMany" "I") ∈ lw_all := lw_g (lw_at lw_m2 7 rfl) rfl
theorem q321 : (Jvm.Cond.fieldLink "PassportOffice" (122 : Nat) "PassportOffice" "askingMany" "I") ∈ lw_all := lw_g (lw_at lw_m2 8 rfl) rfl
theorem q322 : (Jvm.Cond.fieldLink "PassportOffice" (332 : Nat) "PassportOffice" "loanMany" "I") ∈ lw_all := lw_g (lw_at lw_m2 9 rfl) rfl
theorem q323 : (Jvm.Cond.fieldLink "PassportOffice" (74 : Nat) "PassportOffice" "patience" "I") ∈ lw_all := lw_g (lw_at lw_m2 10 rfl) rfl
theorem q324 : (Jvm.Cond.fieldLink "PassportOffice" (78 : Nat) "PassportOffice" "limit" "I") ∈ lw_all := lw_g (lw_at lw_m2 11 rfl) rfl
theorem q325 : (Jvm.Cond.fieldLink "PassportOffice" (81 : Nat) "PassportOffice" "doubt" "I") ∈ lw_all := lw_g (lw_at lw_m2 12 rfl) rfl
theorem q326 : (Jvm.Cond.fieldLink "PassportOffice" (84 : Nat) "PassportOffice" "home" "I") ∈ lw_all := lw_g (lw_at lw_m2 13 rfl) rfl
theorem q327 : (Jvm.Cond.fieldLink "PassportOffice" (87 : Nat) "PassportOffice" "abroad" "I") ∈ lw_all := lw_g (lw_at lw_m2 14 rfl) rfl
theorem q328 : (Jvm.Cond.fieldLink "PassportOffice" (350 : Nat) "PassportOffice" "rule" "I") ∈ lw_all := lw_g (lw_at lw_m2 15 rfl) rfl
theorem q329 : (Jvm.Cond.fieldLink "PassportOffice" (90 : Nat) "PassportOffice" "brokenFrom" "I") ∈ lw_all := lw_g (lw_at lw_m2 16 rfl) rfl
theorem q330 : (Jvm.Cond.fieldLink "PassportOffice" (93 : Nat) "PassportOffice" "brokenTo" "I") ∈ lw_all := lw_g (lw_at lw_m2 17 rfl) rfl
theorem q331 : (Jvm.Cond.fieldLink "PassportOffice" (277 : Nat) "PassportOffice" "fees" "I") ∈ lw_all := lw_g (lw_at lw_m2 18 rfl) rfl
theorem q332 : (Jvm.Cond.fieldLink "PassportOffice" (374 : Nat) "PassportOffice" "paidBack" "I") ∈ lw_all := lw_g (lw_at lw_m2 19 rfl) rfl
theorem q333 : (Jvm.Cond.fieldLink "PassportOffice" (410 : Nat) "PassportOffice" "allCalls" "I") ∈ lw_all := lw_g (lw_at lw_m2 20 rfl) rfl
theorem q334 : (Jvm.Cond.fieldLink "PassportOffice" (96 : Nat) "PassportOffice" "wrongAt" "I") ∈ lw_all := lw_g (lw_at lw_m2 21 rfl) rfl
theorem q335 : (Jvm.Cond.laysFinal "PassportOffice" "PassportOffice" "reader" "LPassportOffice$Reader;") ∈ lw_all := lw_g (lw_at lw_m2 22 rfl) rfl
theorem q336 : (Jvm.Cond.soleField "PassportOffice" "reader") ∈ lw_all := lw_g (lw_at lw_m2 23 rfl) rfl
theorem q337 : (Jvm.Cond.laysFinal "PassportOffice" "PassportOffice" "laws" "[LPassportOffice$Law;") ∈ lw_all := lw_g (lw_at lw_m2 24 rfl) rfl
theorem q338 : (Jvm.Cond.soleField "PassportOffice" "laws") ∈ lw_all := lw_g (lw_at lw_m2 25 rfl) rfl
theorem q339 : (Jvm.Cond.laysFinal "PassportOffice" "PassportOffice" "people" "[LPassportOffice$Person;") ∈ lw_all := lw_g (lw_at lw_m2 26 rfl) rfl
theorem q340 : (Jvm.Cond.soleField "PassportOffice" "people") ∈ lw_all := lw_g (lw_at lw_m2 27 rfl) rfl
theorem q341 : (Jvm.Cond.laysFinal "PassportOffice" "PassportOffice" "told" "[[B") ∈ lw_all := lw_g (lw_at lw_m2 28 rfl) rfl
theorem q342 : (Jvm.Cond.soleField "PassportOffice" "told") ∈ lw_all := lw_g (lw_at lw_m2 29 rfl) rfl
theorem q343 : (Jvm.Cond.laysFinal "PassportOffice" "PassportOffice" "askings" "[LPassportOffice$Asking;") ∈ lw_all := lw_g (lw_at lw_m2 30 rfl) rfl
theorem q344 : (Jvm.Cond.soleField "PassportOffice" "askings") ∈ lw_all := lw_g (lw_at lw_m2 31 rfl) rfl
theorem q345 : (Jvm.Cond.laysFinal "PassportOffice" "PassportOffice" "now" "LPassportOffice$World;") ∈ lw_all := lw_g (lw_at lw_m2 32 rfl) rfl
theorem q346 : (Jvm.Cond.soleField "PassportOffice" "now") ∈ lw_all := lw_g (lw_at lw_m2 33 rfl) rfl
theorem q347 : (Jvm.Cond.laysFinal "PassportOffice" "PassportOffice" "trial" "LPassportOffice$World;") ∈ lw_all := lw_g (lw_at lw_m2 34 rfl) rfl
theorem q348 : (Jvm.Cond.soleField "PassportOffice" "trial") ∈ lw_all := lw_g (lw_at lw_m2 35 rfl) rfl
theorem q349 : (Jvm.Cond.laysFinal "PassportOffice" "PassportOffice" "booklets" "[LPassportOffice$Booklet;") ∈ lw_all := lw_g (lw_at lw_m2 36 rfl) rfl
theorem q350 : (Jvm.Cond.soleField "PassportOffice" "booklets") ∈ lw_all := lw_g (lw_at lw_m2 37 rfl) rfl
theorem q351 : (Jvm.Cond.laysFinal "PassportOffice" "PassportOffice" "loans" "[LPassportOffice$Loan;") ∈ lw_all := lw_g (lw_at lw_m2 38 rfl) rfl
theorem q352 : (Jvm.Cond.soleField "PassportOffice" "loans") ∈ lw_all := lw_g (lw_at lw_m2 39 rfl) rfl
theorem q353 : (Jvm.Cond.laysFinal "PassportOffice" "PassportOffice" "hands" "[I") ∈ lw_all := lw_g (lw_at lw_m2 40 rfl) rfl
theorem q354 : (Jvm.Cond.soleField "PassportOffice" "hands") ∈ lw_all := lw_g (lw_at lw_m2 41 rfl) rfl
theorem q355 : (Jvm.Cond.laysFinal "PassportOffice" "PassportOffice" "row" "[I") ∈ lw_all := lw_g (lw_at lw_m2 42 rfl) rfl
theorem q356 : (Jvm.Cond.soleField "PassportOffice" "row") ∈ lw_all := lw_g (lw_at lw_m2 43 rfl) rfl
theorem q357 : (Jvm.Cond.laysFinal "PassportOffice" "PassportOffice" "facts" "[I") ∈ lw_all := lw_g (lw_at lw_m2 44 rfl) rfl
theorem q358 : (Jvm.Cond.soleField "PassportOffice" "facts") ∈ lw_all := lw_g (lw_at lw_m2 45 rfl) rfl
theorem q359 : (Jvm.Cond.laysFinal "PassportOffice" "PassportOffice" "sizes" "[I") ∈ lw_all := lw_g (lw_at lw_m2 46 rfl) rfl
theorem q360 : (Jvm.Cond.soleField "PassportOffice" "sizes") ∈ lw_all := lw_g (lw_at lw_m2 47 rfl) rfl
theorem q361 : (Jvm.Cond.lays "PassportOffice" "PassportOffice" "lawMany" "I") ∈ lw_all := lw_g (lw_at lw_m2 48 rfl) rfl
theorem q362 : (Jvm.Cond.soleField "PassportOffice" "lawMany") ∈ lw_all := lw_g (lw_at lw_m2 49 rfl) rfl
theorem q363 : (Jvm.Cond.lays "PassportOffice" "PassportOffice" "peopleMany" "I") ∈ lw_all := lw_g (lw_at lw_m2 50 rfl) rfl
theorem q364 : (Jvm.Cond.soleField "PassportOffice" "peopleMany") ∈ lw_all := lw_g (lw_at lw_m2 51 rfl) rfl
theorem q365 : (Jvm.Cond.lays "PassportOffice" "PassportOffice" "askingMany" "I") ∈ lw_all := lw_g (lw_at lw_m2 52 rfl) rfl
theorem q366 : (Jvm.Cond.soleField "PassportOffice" "askingMany") ∈ lw_all := lw_g (lw_at lw_m2 53 rfl) rfl
theorem q367 : (Jvm.Cond.lays "PassportOffice" "PassportOffice" "loanMany" "I") ∈ lw_all := lw_g (lw_at lw_m2 54 rfl) rfl
theorem q368 : (Jvm.Cond.soleField "PassportOffice" "loanMany") ∈ lw_all := lw_g (lw_at lw_m2 55 rfl) rfl
theorem q369 : (Jvm.Cond.lays "PassportOffice" "PassportOffice" "patience" "I") ∈ lw_all := lw_g (lw_at lw_m2 56 rfl) rfl
theorem q370 : (Jvm.Cond.soleField "PassportOffice" "patience") ∈ lw_all := lw_g (lw_at lw_m2 57 rfl) rfl
theorem q371 : (Jvm.Cond.lays "PassportOffice" "PassportOffice" "limit" "I") ∈ lw_all := lw_g (lw_at lw_m2 58 rfl) rfl
theorem q372 : (Jvm.Cond.soleField "PassportOffice" "limit") ∈ lw_all := lw_g (lw_at lw_m2 59 rfl) rfl
theorem q373 : (Jvm.Cond.lays "PassportOffice" "PassportOffice" "doubt" "I") ∈ lw_all := lw_g (lw_at lw_m2 60 rfl) rfl
theorem q374 : (Jvm.Cond.soleField "PassportOffice" "doubt") ∈ lw_all := lw_g (lw_at lw_m2 61 rfl) rfl
theorem q375 : (Jvm.Cond.lays "PassportOffice" "PassportOffice" "home" "I") ∈ lw_all := lw_g (lw_at lw_m2 62 rfl) rfl
theorem q376 : (Jvm.Cond.soleField "PassportOffice" "home") ∈ lw_all := lw_g (lw_at lw_m2 63 rfl) rfl
theorem q377 : (Jvm.Cond.lays "PassportOffice" "PassportOffice" "abroad" "I") ∈ lw_all := lw_g (lw_at lw_m2 64 rfl) rfl
theorem q378 : (Jvm.Cond.soleField "PassportOffice" "abroad") ∈ lw_all := lw_g (lw_at lw_m2 65 rfl) rfl
theorem q379 : (Jvm.Cond.lays "PassportOffice" "PassportOffice" "rule" "I") ∈ lw_all := lw_g (lw_at lw_m2 66 rfl) rfl
theorem q380 : (Jvm.Cond.soleField "PassportOffice" "rule") ∈ lw_all := lw_g (lw_at lw_m2 67 rfl) rfl
theorem q381 : (Jvm.Cond.lays "PassportOffice" "PassportOffice" "brokenFrom" "I") ∈ lw_all := lw_g (lw_at lw_m2 68 rfl) rfl
theorem q382 : (Jvm.Cond.soleField "PassportOffice" "brokenFrom") ∈ lw_all := lw_g (lw_at lw_m2 69 rfl) rfl
theorem q383 : (Jvm.Cond.lays "PassportOffice" "PassportOffice" "brokenTo" "I") ∈ lw_all := lw_g (lw_at lw_m2 70 rfl) rfl
theorem q384 : (Jvm.Cond.soleField "PassportOffice" "brokenTo") ∈ lw_all := lw_g (lw_at lw_m2 71 rfl) rfl
theorem q385 : (Jvm.Cond.lays "PassportOffice" "PassportOffice" "fees" "I") ∈ lw_all := lw_g (lw_at lw_m2 72 rfl) rfl
theorem q386 : (Jvm.Cond.soleField "PassportOffice" "fees") ∈ lw_all := lw_g (lw_at lw_m2 73 rfl) rfl
theorem q387 : (Jvm.Cond.lays "PassportOffice" "PassportOffice" "paidBack" "I") ∈ lw_all := lw_g (lw_at lw_m2 74 rfl) rfl
theorem q388 : (Jvm.Cond.soleField "PassportOffice" "paidBack") ∈ lw_all := lw_g (lw_at lw_m2 75 rfl) rfl
theorem q389 : (Jvm.Cond.lays "PassportOffice" "PassportOffice" "allCalls" "I") ∈ lw_all := lw_g (lw_at lw_m2 76 rfl) rfl
theorem q390 : (Jvm.Cond.soleField "PassportOffice" "allCalls") ∈ lw_all := lw_g (lw_at lw_m2 77 rfl) rfl
theorem q391 : (Jvm.Cond.lays "PassportOffice" "PassportOffice" "wrongAt" "I") ∈ lw_all := lw_g (lw_at lw_m2 78 rfl) rfl
theorem q392 : (Jvm.Cond.soleField "PassportOffice" "wrongAt") ∈ lw_all := lw_g (lw_at lw_m2 79 rfl) rfl
theorem q393 : (Jvm.Cond.superclass "PassportOffice" "java/lang/Object") ∈ lw_all := lw_g (lw_at lw_m2 80 rfl) rfl
theorem q396 : (Jvm.Cond.instanceMethod ({ cls := "PassportOffice", name := "feed", desc := "(IIIII)I" } : Jvm.MethodName)) ∈ lw_all := lw_g (lw_at lw_m2 83 rfl) rfl
theorem q397 : (Jvm.Cond.selects "PassportOffice" ({ cls := "PassportOffice", name := "feed", desc := "(IIIII)I" } : Jvm.MethodName) ({ cls := "PassportOffice", name := "feed", desc := "(IIIII)I" } : Jvm.MethodName)) ∈ lw_all := lw_g (lw_at lw_m2 84 rfl) rfl
theorem q398 : (Jvm.Cond.code ({ cls := "PassportOffice", name := "feed", desc := "(IIIII)I" } : Jvm.MethodName) prog_1_method_11_code (6 : Nat) (Option.some Jvm.ClassFile.FieldType.int)) ∈ lw_all := lw_g (lw_at lw_m2 85 rfl) rfl
theorem q399 : (Jvm.Cond.methodLink "PassportOffice" (132 : Nat) ({ cls := "PassportOffice", name := "four", desc := "(I)V" } : Jvm.MethodName)) ∈ lw_all := lw_g (lw_at lw_m2 86 rfl) rfl
theorem q400 : (Jvm.Cond.privateMethod ({ cls := "PassportOffice", name := "four", desc := "(I)V" } : Jvm.MethodName)) ∈ lw_tbl := lw_at lw_m2 87 rfl
theorem q401 : (Jvm.Cond.instanceMethod ({ cls := "PassportOffice", name := "four", desc := "(I)V" } : Jvm.MethodName)) ∈ lw_all := lw_g (lw_at lw_m2 88 rfl) rfl
theorem q402 : (Jvm.Cond.code ({ cls := "PassportOffice", name := "four", desc := "(I)V" } : Jvm.MethodName) prog_1_method_10_code (3 : Nat) (Option.none : Option Jvm.ClassFile.FieldType)) ∈ lw_all := lw_g (lw_at lw_m2 89 rfl) rfl
theorem q404 : (Jvm.Cond.instanceMethod ({ cls := "PassportOffice", name := "end", desc := "(I)Z" } : Jvm.MethodName)) ∈ lw_all := lw_g (lw_at lw_m2 91 rfl) rfl
theorem q405 : (Jvm.Cond.selects "PassportOffice" ({ cls := "PassportOffice", name := "end", desc := "(I)Z" } : Jvm.MethodName) ({ cls := "PassportOffice", name := "end", desc := "(I)Z" } : Jvm.MethodName)) ∈ lw_all := lw_g (lw_at lw_m2 92 rfl) rfl
theorem q406 : (Jvm.Cond.code ({ cls := "PassportOffice", name := "end", desc := "(I)Z" } : Jvm.MethodName) prog_1_method_12_code (2 : Nat) (Option.some Jvm.ClassFile.FieldType.boolean)) ∈ lw_all := lw_g (lw_at lw_m2 93 rfl) rfl
theorem q407 : (Jvm.Cond.methodLink "PassportOffice" (114 : Nat) ({ cls := "PassportOffice", name := "isIn", desc := "(III)Z" } : Jvm.MethodName)) ∈ lw_all := lw_g (lw_at lw_m2 94 rfl) rfl
theorem q408 : (Jvm.Cond.static ({ cls := "PassportOffice", name := "isIn", desc := "(III)Z" } : Jvm.MethodName)) ∈ lw_all := lw_g (lw_at lw_m2 95 rfl) rfl
theorem q409 : (Jvm.Cond.code ({ cls := "PassportOffice", name := "isIn", desc := "(III)Z" } : Jvm.MethodName) prog_1_method_6_code (3 : Nat) (Option.some Jvm.ClassFile.FieldType.boolean)) ∈ lw_all := lw_g (lw_at lw_m2 96 rfl) rfl
theorem q411 : (Jvm.Cond.instanceMethod ({ cls := "PassportOffice", name := "fault", desc := "()I" } : Jvm.MethodName)) ∈ lw_all := lw_g (lw_at lw_m2 98 rfl) rfl
theorem q412 : (Jvm.Cond.selects "PassportOffice" ({ cls := "PassportOffice", name := "fault", desc := "()I" } : Jvm.MethodName) ({ cls := "PassportOffice", name := "fault", desc := "()I" } : Jvm.MethodName)) ∈ lw_all := lw_g (lw_at lw_m2 99 rfl) rfl
theorem q413 : (Jvm.Cond.code ({ cls := "PassportOffice", name := "fault", desc := "()I" } : Jvm.MethodName) prog_1_method_15_code (1 : Nat) (Option.some Jvm.ClassFile.FieldType.int)) ∈ lw_all := lw_g (lw_at lw_m2 100 rfl) rfl
theorem q415 : (Jvm.Cond.instanceMethod ({ cls := "PassportOffice", name := "ends", desc := "(II)I" } : Jvm.MethodName)) ∈ lw_all := lw_g (lw_at lw_m2 102 rfl) rfl
theorem q416 : (Jvm.Cond.selects "PassportOffice" ({ cls := "PassportOffice", name := "ends", desc := "(II)I" } : Jvm.MethodName) ({ cls := "PassportOffice", name := "ends", desc := "(II)I" } : Jvm.MethodName)) ∈ lw_all := lw_g (lw_at lw_m2 103 rfl) rfl
theorem q417 : (Jvm.Cond.code ({ cls := "PassportOffice", name := "ends", desc := "(II)I" } : Jvm.MethodName) prog_1_method_64_code (5 : Nat) (Option.some Jvm.ClassFile.FieldType.int)) ∈ lw_all := lw_g (lw_at lw_m2 104 rfl) rfl
theorem q419 : (Jvm.Cond.instanceMethod ({ cls := "PassportOffice", name := "count", desc := "(I)I" } : Jvm.MethodName)) ∈ lw_all := lw_g (lw_at lw_m2 106 rfl) rfl
theorem q420 : (Jvm.Cond.selects "PassportOffice" ({ cls := "PassportOffice", name := "count", desc := "(I)I" } : Jvm.MethodName) ({ cls := "PassportOffice", name := "count", desc := "(I)I" } : Jvm.MethodName)) ∈ lw_all := lw_g (lw_at lw_m2 107 rfl) rfl
theorem q421 : (Jvm.Cond.code ({ cls := "PassportOffice", name := "count", desc := "(I)I" } : Jvm.MethodName) prog_1_method_66_code (3 : Nat) (Option.some Jvm.ClassFile.FieldType.int)) ∈ lw_all := lw_g (lw_at lw_m2 108 rfl) rfl
theorem q422 : (Jvm.Cond.methodLink "PassportOffice" (176 : Nat) ({ cls := "PassportOffice", name := "lawOf", desc := "(I)LPassportOffice$Law;" } : Jvm.MethodName)) ∈ lw_all := lw_g (lw_at lw_m2 109 rfl) rfl
theorem q423 : (Jvm.Cond.privateMethod ({ cls := "PassportOffice", name := "lawOf", desc := "(I)LPassportOffice$Law;" } : Jvm.MethodName)) ∈ lw_tbl := lw_at lw_m2 110 rfl
theorem q424 : (Jvm.Cond.instanceMethod ({ cls := "PassportOffice", name := "lawOf", desc := "(I)LPassportOffice$Law;" } : Jvm.MethodName)) ∈ lw_all := lw_g (lw_at lw_m2 111 rfl) rfl
theorem q425 : (Jvm.Cond.code ({ cls := "PassportOffice", name := "lawOf", desc := "(I)LPassportOffice$Law;" } : Jvm.MethodName) prog_1_method_16_code (4 : Nat) (Option.some (Jvm.ClassFile.FieldType.object "PassportOffice$Law"))) ∈ lw_all := lw_g (lw_at lw_m2 112 rfl) rfl
theorem q426 : (Jvm.Cond.methodLink "PassportOffice" (426 : Nat) ({ cls := "PassportOffice", name := "inState", desc := "(II)I" } : Jvm.MethodName)) ∈ lw_all := lw_g (lw_at lw_m2 113 rfl) rfl
theorem q427 : (Jvm.Cond.privateMethod ({ cls := "PassportOffice", name := "inState", desc := "(II)I" } : Jvm.MethodName)) ∈ lw_tbl := lw_at lw_m2 114 rfl
theorem q428 : (Jvm.Cond.instanceMethod ({ cls := "PassportOffice", name := "inState", desc := "(II)I" } : Jvm.MethodName)) ∈ lw_all := lw_g (lw_at lw_m2 115 rfl) rfl
theorem q429 : (Jvm.Cond.code ({ cls := "PassportOffice", name := "inState", desc := "(II)I" } : Jvm.MethodName) prog_1_method_65_code (5 : Nat) (Option.some Jvm.ClassFile.FieldType.int)) ∈ lw_all := lw_g (lw_at lw_m2 116 rfl) rfl
theorem q436 : (Jvm.Cond.instanceMethod ({ cls := "PassportOffice", name := "law", desc := "(I)I" } : Jvm.MethodName)) ∈ lw_all := lw_g (lw_at lw_m2 123 rfl) rfl
theorem q437 : (Jvm.Cond.selects "PassportOffice" ({ cls := "PassportOffice", name := "law", desc := "(I)I" } : Jvm.MethodName) ({ cls := "PassportOffice", name := "law", desc := "(I)I" } : Jvm.MethodName)) ∈ lw_all := lw_g (lw_at lw_m2 124 rfl) rfl
theorem q438 : (Jvm.Cond.codeWith ({ cls := "PassportOffice", name := "law", desc := "(I)I" } : Jvm.MethodName) prog_1_method_14_code (5 : Nat) (Option.some Jvm.ClassFile.FieldType.int) [((27 : Nat), (37 : Nat), (40 : Nat), (150 : Nat))]) ∈ lw_all := lw_g (lw_at lw_m2 125 rfl) rfl
theorem q439 : (Jvm.Cond.classLink "PassportOffice" (150 : Nat) "PassportOffice$Wrong") ∈ lw_all := lw_g (lw_at lw_m2 126 rfl) rfl
theorem q440 : (Jvm.Cond.methodLink "PassportOffice" (136 : Nat) ({ cls := "PassportOffice", name := "use", desc := "()I" } : Jvm.MethodName)) ∈ lw_all := lw_g (lw_at lw_m2 127 rfl) rfl
theorem q441 : (Jvm.Cond.privateMethod ({ cls := "PassportOffice", name := "use", desc := "()I" } : Jvm.MethodName)) ∈ lw_tbl := lw_at lw_m2 128 rfl
theorem q442 : (Jvm.Cond.instanceMethod ({ cls := "PassportOffice", name := "use", desc := "()I" } : Jvm.MethodName)) ∈ lw_all := lw_g (lw_at lw_m2 129 rfl) rfl
theorem q443 : (Jvm.Cond.code ({ cls := "PassportOffice", name := "use", desc := "()I" } : Jvm.MethodName) prog_1_method_13_code (2 : Nat) (Option.some Jvm.ClassFile.FieldType.int)) ∈ lw_all := lw_g (lw_at lw_m2 130 rfl) rfl
theorem q444 : (Jvm.Cond.methodLink "PassportOffice" (143 : Nat) ({ cls := "PassportOffice", name := "must", desc := "(Z)V" } : Jvm.MethodName)) ∈ lw_all := lw_g (lw_at lw_m2 131 rfl) rfl
theorem q445 : (Jvm.Cond.static ({ cls := "PassportOffice", name := "must", desc := "(Z)V" } : Jvm.MethodName)) ∈ lw_all := lw_g (lw_at lw_m2 132 rfl) rfl
theorem q446 : (Jvm.Cond.code ({ cls := "PassportOffice", name := "must", desc := "(Z)V" } : Jvm.MethodName) prog_1_method_2_code (1 : Nat) (Option.none : Option Jvm.ClassFile.FieldType)) ∈ lw_all := lw_g (lw_at lw_m2 133 rfl) rfl
theorem q447 : (Jvm.Cond.classLink "PassportOffice" (99 : Nat) "java/lang/IllegalArgumentException") ∈ lw_all := lw_g (lw_at lw_m2 134 rfl) rfl
theorem q456 : (Jvm.Cond.methodLink "PassportOffice" (101 : Nat) ({ cls := "java/lang/IllegalArgumentException", name := "<init>", desc := "()V" } : Jvm.MethodName)) ∈ lw_all := lw_g (lw_at lw_m2 143 rfl) rfl
theorem q468 : (Jvm.Cond.methodLink "PassportOffice" (146 : Nat) ({ cls := "PassportOffice$Reader", name := "law", desc := "(II)LPassportOffice$Law;" } : Jvm.MethodName)) ∈ lw_all := lw_g (lw_at lw_m2 155 rfl) rfl
theorem q638 : (Jvm.Cond.fieldLinkNest "PassportOffice" (164 : Nat) "PassportOffice$Law" "from" "I" "PassportOffice") ∈ lw_tbl := lw_at lw_m3 85 rfl
theorem q640 : (Jvm.Cond.fieldLinkNest "PassportOffice" (161 : Nat) "PassportOffice$Law" "many" "I" "PassportOffice") ∈ lw_tbl := lw_at lw_m3 87 rfl
theorem q649 : (Jvm.Cond.methodLink "PassportOffice" (158 : Nat) ({ cls := "PassportOffice", name := "mayBe", desc := "(Z)V" } : Jvm.MethodName)) ∈ lw_all := lw_g (lw_at lw_m3 96 rfl) rfl
theorem q650 : (Jvm.Cond.static ({ cls := "PassportOffice", name := "mayBe", desc := "(Z)V" } : Jvm.MethodName)) ∈ lw_all := lw_g (lw_at lw_m3 97 rfl) rfl
theorem q651 : (Jvm.Cond.code ({ cls := "PassportOffice", name := "mayBe", desc := "(Z)V" } : Jvm.MethodName) prog_1_method_3_code (1 : Nat) (Option.none : Option Jvm.ClassFile.FieldType)) ∈ lw_all := lw_g (lw_at lw_m3 98 rfl) rfl
theorem q652 : (Jvm.Cond.classLink "PassportOffice" (102 : Nat) "java/lang/UnsupportedOperationException") ∈ lw_all := lw_g (lw_at lw_m3 99 rfl) rfl
theorem q661 : (Jvm.Cond.methodLink "PassportOffice" (104 : Nat) ({ cls := "java/lang/UnsupportedOperationException", name := "<init>", desc := "()V" } : Jvm.MethodName)) ∈ lw_all := lw_g (lw_at lw_m3 108 rfl) rfl
theorem q671 : (Jvm.Cond.instanceMethod ({ cls := "PassportOffice", name := "person", desc := "(IZIIIII)I" } : Jvm.MethodName)) ∈ lw_all := lw_g (lw_at lw_m3 118 rfl) rfl
theorem q672 : (Jvm.Cond.selects "PassportOffice" ({ cls := "PassportOffice", name := "person", desc := "(IZIIIII)I" } : Jvm.MethodName) ({ cls := "PassportOffice", name := "person", desc := "(IZIIIII)I" } : Jvm.MethodName)) ∈ lw_all := lw_g (lw_at lw_m3 119 rfl) rfl
theorem q673 : (Jvm.Cond.code ({ cls := "PassportOffice", name := "person", desc := "(IZIIIII)I" } : Jvm.MethodName) prog_1_method_19_code (11 : Nat) (Option.some Jvm.ClassFile.FieldType.int)) ∈ lw_all := lw_g (lw_at lw_m3 120 rfl) rfl
theorem q674 : (Jvm.Cond.constant "PassportOffice" (197 : Nat) (-40000 : Int32)) ∈ lw_all := lw_g (lw_at lw_m3 121 rfl) rfl
theorem q676 : (Jvm.Cond.methodLink "PassportOffice" (198 : Nat) ({ cls := "PassportOffice$Person", name := "<init>", desc := "(IZ[I)V" } : Jvm.MethodName)) ∈ lw_all := lw_g (lw_at lw_m3 123 rfl) rfl
theorem q681 : (Jvm.Cond.fieldLinkNest "PassportOffice" (183 : Nat) "PassportOffice$Person" "born" "I" "PassportOffice") ∈ lw_tbl := lw_at lw_m3 128 rfl
theorem q683 : (Jvm.Cond.fieldLinkNest "PassportOffice" (190 : Nat) "PassportOffice$Person" "abroad" "Z" "PassportOffice") ∈ lw_tbl := lw_at lw_m3 130 rfl
theorem q685 : (Jvm.Cond.fieldLinkNest "PassportOffice" (212 : Nat) "PassportOffice$Person" "name" "[B" "PassportOffice") ∈ lw_tbl := lw_at lw_m3 132 rfl
theorem q731 : (Jvm.Cond.instanceMethod ({ cls := "PassportOffice", name := "name", desc := "(I)I" } : Jvm.MethodName)) ∈ lw_all := lw_g (lw_at lw_m3 178 rfl) rfl
theorem q732 : (Jvm.Cond.selects "PassportOffice" ({ cls := "PassportOffice", name := "name", desc := "(I)I" } : Jvm.MethodName) ({ cls := "PassportOffice", name := "name", desc := "(I)I" } : Jvm.MethodName)) ∈ lw_all := lw_g (lw_at lw_m3 179 rfl) rfl
theorem q733 : (Jvm.Cond.codeWith ({ cls := "PassportOffice", name := "name", desc := "(I)I" } : Jvm.MethodName) prog_1_method_20_code (7 : Nat) (Option.some Jvm.ClassFile.FieldType.int) [((16 : Nat), (26 : Nat), (29 : Nat), (150 : Nat))]) ∈ lw_all := lw_g (lw_at lw_m3 180 rfl) rfl
theorem q734 : (Jvm.Cond.methodLink "PassportOffice" (201 : Nat) ({ cls := "PassportOffice", name := "personAt", desc := "(I)LPassportOffice$Person;" } : Jvm.MethodName)) ∈ lw_all := lw_g (lw_at lw_m3 181 rfl) rfl
theorem q735 : (Jvm.Cond.privateMethod ({ cls := "PassportOffice", name := "personAt", desc := "(I)LPassportOffice$Person;" } : Jvm.MethodName)) ∈ lw_tbl := lw_at lw_m3 182 rfl
theorem q736 : (Jvm.Cond.instanceMethod ({ cls := "PassportOffice", name := "personAt", desc := "(I)LPassportOffice$Person;" } : Jvm.MethodName)) ∈ lw_all := lw_g (lw_at lw_m3 183 rfl) rfl
theorem q737 : (Jvm.Cond.code ({ cls := "PassportOffice", name := "personAt", desc := "(I)LPassportOffice$Person;" } : Jvm.MethodName) prog_1_method_7_code (2 : Nat) (Option.some (Jvm.ClassFile.FieldType.object "PassportOffice$Person"))) ∈ lw_all := lw_g (lw_at lw_m3 184 rfl) rfl
theorem q738 : (Jvm.Cond.methodLink "PassportOffice" (118 : Nat) ({ cls := "PassportOffice", name := "mustBe", desc := "(Z)V" } : Jvm.MethodName)) ∈ lw_all := lw_g (lw_at lw_m3 185 rfl) rfl
theorem q739 : (Jvm.Cond.static ({ cls := "PassportOffice", name := "mustBe", desc := "(Z)V" } : Jvm.MethodName)) ∈ lw_all := lw_g (lw_at lw_m3 186 rfl) rfl
theorem q740 : (Jvm.Cond.code ({ cls := "PassportOffice", name := "mustBe", desc := "(Z)V" } : Jvm.MethodName) prog_1_method_4_code (1 : Nat) (Option.none : Option Jvm.ClassFile.FieldType)) ∈ lw_all := lw_g (lw_at lw_m3 187 rfl) rfl
theorem q741 : (Jvm.Cond.classLink "PassportOffice" (105 : Nat) "java/lang/IndexOutOfBoundsException") ∈ lw_all := lw_g (lw_at lw_m3 188 rfl) rfl
theorem q750 : (Jvm.Cond.methodLink "PassportOffice" (107 : Nat) ({ cls := "java/lang/IndexOutOfBoundsException", name := "<init>", desc := "()V" } : Jvm.MethodName)) ∈ lw_all := lw_g (lw_at lw_m3 197 rfl) rfl
theorem q756 : (Jvm.Cond.methodLink "PassportOffice" (205 : Nat) ({ cls := "PassportOffice$Reader", name := "name", desc := "(I)I" } : Jvm.MethodName)) ∈ lw_all := lw_g (lw_at lw_m3 203 rfl) rfl
theorem q767 : (Jvm.Cond.instanceMethod ({ cls := "PassportOffice", name := "sign", desc := "(II)I" } : Jvm.MethodName)) ∈ lw_all := lw_g (lw_at lw_m3 214 rfl) rfl
theorem q768 : (Jvm.Cond.selects "PassportOffice" ({ cls := "PassportOffice", name := "sign", desc := "(II)I" } : Jvm.MethodName) ({ cls := "PassportOffice", name := "sign", desc := "(II)I" } : Jvm.MethodName)) ∈ lw_all := lw_g (lw_at lw_m3 215 rfl) rfl
theorem q769 : (Jvm.Cond.code ({ cls := "PassportOffice", name := "sign", desc := "(II)I" } : Jvm.MethodName) prog_1_method_21_code (4 : Nat) (Option.some Jvm.ClassFile.FieldType.int)) ∈ lw_all := lw_g (lw_at lw_m3 216 rfl) rfl
theorem q774 : (Jvm.Cond.instanceMethod ({ cls := "PassportOffice", name := "figure", desc := "(I)I" } : Jvm.MethodName)) ∈ lw_all := lw_g (lw_at lw_m3 221 rfl) rfl
theorem q775 : (Jvm.Cond.selects "PassportOffice" ({ cls := "PassportOffice", name := "figure", desc := "(I)I" } : Jvm.MethodName) ({ cls := "PassportOffice", name := "figure", desc := "(I)I" } : Jvm.MethodName)) ∈ lw_all := lw_g (lw_at lw_m3 222 rfl) rfl
theorem q776 : (Jvm.Cond.code ({ cls := "PassportOffice", name := "figure", desc := "(I)I" } : Jvm.MethodName) prog_1_method_22_code (6 : Nat) (Option.some Jvm.ClassFile.FieldType.int)) ∈ lw_all := lw_g (lw_at lw_m3 223 rfl) rfl
theorem q781 : (Jvm.Cond.instanceMethod ({ cls := "PassportOffice", name := "far", desc := "(II)I" } : Jvm.MethodName)) ∈ lw_all := lw_g (lw_at lw_m3 228 rfl) rfl
theorem q782 : (Jvm.Cond.selects "PassportOffice" ({ cls := "PassportOffice", name := "far", desc := "(II)I" } : Jvm.MethodName) ({ cls := "PassportOffice", name := "far", desc := "(II)I" } : Jvm.MethodName)) ∈ lw_all := lw_g (lw_at lw_m3 229 rfl) rfl
theorem q783 : (Jvm.Cond.code ({ cls := "PassportOffice", name := "far", desc := "(II)I" } : Jvm.MethodName) prog_1_method_23_code (3 : Nat) (Option.some Jvm.ClassFile.FieldType.int)) ∈ lw_all := lw_g (lw_at lw_m3 230 rfl) rfl
theorem q784 : (Jvm.Cond.methodLink "PassportOffice" (214 : Nat) ({ cls := "PassportOffice$Person", name := "far", desc := "(LPassportOffice$Person;)I" } : Jvm.MethodName)) ∈ lw_all := lw_g (lw_at lw_m3 231 rfl) rfl
theorem q792 : (Jvm.Cond.instanceMethod ({ cls := "PassportOffice", name := "tell", desc := "(IIZ)I" } : Jvm.MethodName)) ∈ lw_all := lw_g (lw_at lw_m3 239 rfl) rfl
theorem q793 : (Jvm.Cond.selects "PassportOffice" ({ cls := "PassportOffice", name := "tell", desc := "(IIZ)I" } : Jvm.MethodName) ({ cls := "PassportOffice", name := "tell", desc := "(IIZ)I" } : Jvm.MethodName)) ∈ lw_all := lw_g (lw_at lw_m4 0 rfl) rfl
theorem q794 : (Jvm.Cond.code ({ cls := "PassportOffice", name := "tell", desc := "(IIZ)I" } : Jvm.MethodName) prog_1_method_26_code (7 : Nat) (Option.some Jvm.ClassFile.FieldType.int)) ∈ lw_all := lw_g (lw_at lw_m4 1 rfl) rfl
theorem q795 : (Jvm.Cond.methodLink "PassportOffice" (241 : Nat) ({ cls := "PassportOffice", name := "behindCheck", desc := "(LPassportOffice$Asking;)I" } : Jvm.MethodName)) ∈ lw_all := lw_g (lw_at lw_m4 2 rfl) rfl
theorem q796 : (Jvm.Cond.privateMethod ({ cls := "PassportOffice", name := "behindCheck", desc := "(LPassportOffice$Asking;)I" } : Jvm.MethodName)) ∈ lw_tbl := lw_at lw_m4 3 rfl
theorem q797 : (Jvm.Cond.instanceMethod ({ cls := "PassportOffice", name := "behindCheck", desc := "(LPassportOffice$Asking;)I" } : Jvm.MethodName)) ∈ lw_all := lw_g (lw_at lw_m4 4 rfl) rfl
theorem q798 : (Jvm.Cond.code ({ cls := "PassportOffice", name := "behindCheck", desc := "(LPassportOffice$Asking;)I" } : Jvm.MethodName) prog_1_method_25_code (3 : Nat) (Option.some Jvm.ClassFile.FieldType.int)) ∈ lw_all := lw_g (lw_at lw_m4 5 rfl) rfl
theorem q799 : (Jvm.Cond.methodLink "PassportOffice" (219 : Nat) ({ cls := "PassportOffice", name := "face", desc := "(I)I" } : Jvm.MethodName)) ∈ lw_all := lw_g (lw_at lw_m4 6 rfl) rfl
theorem q800 : (Jvm.Cond.privateMethod ({ cls := "PassportOffice", name := "face", desc := "(I)I" } : Jvm.MethodName)) ∈ lw_tbl := lw_at lw_m4 7 rfl
theorem q801 : (Jvm.Cond.instanceMethod ({ cls := "PassportOffice", name := "face", desc := "(I)I" } : Jvm.MethodName)) ∈ lw_all := lw_g (lw_at lw_m4 8 rfl) rfl
theorem q802 : (Jvm.Cond.code ({ cls := "PassportOffice", name := "face", desc := "(I)I" } : Jvm.MethodName) prog_1_method_24_code (4 : Nat) (Option.some Jvm.ClassFile.FieldType.int)) ∈ lw_all := lw_g (lw_at lw_m4 9 rfl) rfl
theorem q808 : (Jvm.Cond.instanceMethod ({ cls := "PassportOffice", name := "judge", desc := "(IIIZI)I" } : Jvm.MethodName)) ∈ lw_all := lw_g (lw_at lw_m4 15 rfl) rfl
theorem q809 : (Jvm.Cond.selects "PassportOffice" ({ cls := "PassportOffice", name := "judge", desc := "(IIIZI)I" } : Jvm.MethodName) ({ cls := "PassportOffice", name := "judge", desc := "(IIIZI)I" } : Jvm.MethodName)) ∈ lw_all := lw_g (lw_at lw_m4 16 rfl) rfl
theorem q810 : (Jvm.Cond.code ({ cls := "PassportOffice", name := "judge", desc := "(IIIZI)I" } : Jvm.MethodName) prog_1_method_28_code (8 : Nat) (Option.some Jvm.ClassFile.FieldType.int)) ∈ lw_all := lw_g (lw_at lw_m4 17 rfl) rfl
theorem q811 : (Jvm.Cond.methodLink "PassportOffice" (245 : Nat) ({ cls := "PassportOffice", name := "isAsked", desc := "(II)V" } : Jvm.MethodName)) ∈ lw_all := lw_g (lw_at lw_m4 18 rfl) rfl
theorem q812 : (Jvm.Cond.privateMethod ({ cls := "PassportOffice", name := "isAsked", desc := "(II)V" } : Jvm.MethodName)) ∈ lw_tbl := lw_at lw_m4 19 rfl
theorem q813 : (Jvm.Cond.instanceMethod ({ cls := "PassportOffice", name := "isAsked", desc := "(II)V" } : Jvm.MethodName)) ∈ lw_all := lw_g (lw_at lw_m4 20 rfl) rfl
theorem q814 : (Jvm.Cond.code ({ cls := "PassportOffice", name := "isAsked", desc := "(II)V" } : Jvm.MethodName) prog_1_method_27_code (3 : Nat) (Option.none : Option Jvm.ClassFile.FieldType)) ∈ lw_all := lw_g (lw_at lw_m4 21 rfl) rfl
theorem q815 : (Jvm.Cond.methodLink "PassportOffice" (249 : Nat) ({ cls := "PassportOffice", name := "ruling", desc := "(IIIZ)LPassportOffice$Ruling;" } : Jvm.MethodName)) ∈ lw_all := lw_g (lw_at lw_m4 22 rfl) rfl
theorem q816 : (Jvm.Cond.privateMethod ({ cls := "PassportOffice", name := "ruling", desc := "(IIIZ)LPassportOffice$Ruling;" } : Jvm.MethodName)) ∈ lw_tbl := lw_at lw_m4 23 rfl
theorem q817 : (Jvm.Cond.instanceMethod ({ cls := "PassportOffice", name := "ruling", desc := "(IIIZ)LPassportOffice$Ruling;" } : Jvm.MethodName)) ∈ lw_all := lw_g (lw_at lw_m4 24 rfl) rfl
theorem q818 : (Jvm.Cond.code ({ cls := "PassportOffice", name := "ruling", desc := "(IIIZ)LPassportOffice$Ruling;" } : Jvm.MethodName) prog_1_method_18_code (8 : Nat) (Option.some (Jvm.ClassFile.FieldType.object "PassportOffice$Ruling"))) ∈ lw_all := lw_g (lw_at lw_m4 25 rfl) rfl
theorem q819 : (Jvm.Cond.classLink "PassportOffice" (180 : Nat) "PassportOffice$Ruling") ∈ lw_all := lw_g (lw_at lw_m4 26 rfl) rfl
theorem q821 : (Jvm.Cond.methodLinkNest "PassportOffice" (182 : Nat) ({ cls := "PassportOffice$Ruling", name := "<init>", desc := "()V" } : Jvm.MethodName) "PassportOffice") ∈ lw_tbl := lw_at lw_m4 28 rfl
theorem q826 : (Jvm.Cond.fieldLinkNest "PassportOffice" (252 : Nat) "PassportOffice$Ruling" "needs" "I" "PassportOffice") ∈ lw_tbl := lw_at lw_m4 33 rfl
theorem q828 : (Jvm.Cond.fieldLinkNest "PassportOffice" (255 : Nat) "PassportOffice$Ruling" "fee" "I" "PassportOffice") ∈ lw_tbl := lw_at lw_m4 35 rfl
theorem q831 : (Jvm.Cond.fieldLinkNest "PassportOffice" (258 : Nat) "PassportOffice$Ruling" "years" "I" "PassportOffice") ∈ lw_tbl := lw_at lw_m4 38 rfl
theorem q833 : (Jvm.Cond.fieldLinkNest "PassportOffice" (229 : Nat) "PassportOffice$Ruling" "risk" "I" "PassportOffice") ∈ lw_tbl := lw_at lw_m4 40 rfl
theorem q836 : (Jvm.Cond.fieldLinkNest "PassportOffice" (261 : Nat) "PassportOffice$Ruling" "back" "I" "PassportOffice") ∈ lw_tbl := lw_at lw_m4 43 rfl
theorem q838 : (Jvm.Cond.fieldLinkNest "PassportOffice" (226 : Nat) "PassportOffice$Ruling" "see" "Z" "PassportOffice") ∈ lw_tbl := lw_at lw_m4 45 rfl
theorem q852 : (Jvm.Cond.methodLink "PassportOffice" (186 : Nat) ({ cls := "PassportOffice", name := "validOf", desc := "(II)I" } : Jvm.MethodName)) ∈ lw_all := lw_g (lw_at lw_m4 59 rfl) rfl
theorem q853 : (Jvm.Cond.privateMethod ({ cls := "PassportOffice", name := "validOf", desc := "(II)I" } : Jvm.MethodName)) ∈ lw_tbl := lw_at lw_m4 60 rfl
theorem q854 : (Jvm.Cond.instanceMethod ({ cls := "PassportOffice", name := "validOf", desc := "(II)I" } : Jvm.MethodName)) ∈ lw_all := lw_g (lw_at lw_m4 61 rfl) rfl
theorem q855 : (Jvm.Cond.code ({ cls := "PassportOffice", name := "validOf", desc := "(II)I" } : Jvm.MethodName) prog_1_method_17_code (5 : Nat) (Option.some Jvm.ClassFile.FieldType.int)) ∈ lw_all := lw_g (lw_at lw_m4 62 rfl) rfl
theorem q856 : (Jvm.Cond.methodLink "PassportOffice" (172 : Nat) ({ cls := "PassportOffice$Booklet", name := "isValid", desc := "(I)Z" } : Jvm.MethodName)) ∈ lw_all := lw_g (lw_at lw_m4 63 rfl) rfl
theorem q860 : (Jvm.Cond.methodLink "PassportOffice" (193 : Nat) ({ cls := "PassportOffice$Law", name := "rules", desc := "([I)LPassportOffice$Ruling;" } : Jvm.MethodName)) ∈ lw_all := lw_g (lw_at lw_m4 67 rfl) rfl
theorem q886 : (Jvm.Cond.classLink "PassportOffice" (264 : Nat) "java/util/NoSuchElementException") ∈ lw_all := lw_g (lw_at lw_m4 93 rfl) rfl
theorem q895 : (Jvm.Cond.methodLink "PassportOffice" (266 : Nat) ({ cls := "java/util/NoSuchElementException", name := "<init>", desc := "()V" } : Jvm.MethodName)) ∈ lw_all := lw_g (lw_at lw_m4 102 rfl) rfl
theorem q905 : (Jvm.Cond.instanceMethod ({ cls := "PassportOffice", name := "ask", desc := "(IIIIZ)I" } : Jvm.MethodName)) ∈ lw_all := lw_g (lw_at lw_m4 112 rfl) rfl
theorem q906 : (Jvm.Cond.selects "PassportOffice" ({ cls := "PassportOffice", name := "ask", desc := "(IIIIZ)I" } : Jvm.MethodName) ({ cls := "PassportOffice", name := "ask", desc := "(IIIIZ)I" } : Jvm.MethodName)) ∈ lw_all := lw_g (lw_at lw_m4 113 rfl) rfl
theorem q907 : (Jvm.Cond.code ({ cls := "PassportOffice", name := "ask", desc := "(IIIIZ)I" } : Jvm.MethodName) prog_1_method_30_code (9 : Nat) (Option.some Jvm.ClassFile.FieldType.int)) ∈ lw_all := lw_g (lw_at lw_m4 114 rfl) rfl
theorem q908 : (Jvm.Cond.methodLink "PassportOffice" (267 : Nat) ({ cls := "PassportOffice", name := "isItems", desc := "(I)V" } : Jvm.MethodName)) ∈ lw_all := lw_g (lw_at lw_m4 115 rfl) rfl
theorem q909 : (Jvm.Cond.static ({ cls := "PassportOffice", name := "isItems", desc := "(I)V" } : Jvm.MethodName)) ∈ lw_all := lw_g (lw_at lw_m4 116 rfl) rfl
theorem q910 : (Jvm.Cond.code ({ cls := "PassportOffice", name := "isItems", desc := "(I)V" } : Jvm.MethodName) prog_1_method_29_code (1 : Nat) (Option.none : Option Jvm.ClassFile.FieldType)) ∈ lw_all := lw_g (lw_at lw_m4 117 rfl) rfl
theorem q912 : (Jvm.Cond.methodLink "PassportOffice" (270 : Nat) ({ cls := "PassportOffice$Asking", name := "<init>", desc := "(IIIIIZLPassportOffice$Ruling;)V" } : Jvm.MethodName)) ∈ lw_all := lw_g (lw_at lw_m4 119 rfl) rfl
theorem q917 : (Jvm.Cond.fieldLinkNest "PassportOffice" (280 : Nat) "PassportOffice$Asking" "number" "I" "PassportOffice") ∈ lw_tbl := lw_at lw_m4 124 rfl
theorem q919 : (Jvm.Cond.fieldLinkNest "PassportOffice" (218 : Nat) "PassportOffice$Asking" "person" "I" "PassportOffice") ∈ lw_tbl := lw_at lw_m4 126 rfl
theorem q921 : (Jvm.Cond.fieldLinkNest "PassportOffice" (308 : Nat) "PassportOffice$Asking" "kind" "I" "PassportOffice") ∈ lw_tbl := lw_at lw_m4 128 rfl
theorem q923 : (Jvm.Cond.fieldLinkNest "PassportOffice" (311 : Nat) "PassportOffice$Asking" "came" "I" "PassportOffice") ∈ lw_tbl := lw_at lw_m4 130 rfl
theorem q925 : (Jvm.Cond.fieldLinkNest "PassportOffice" (314 : Nat) "PassportOffice$Asking" "wanted" "I" "PassportOffice") ∈ lw_tbl := lw_at lw_m4 132 rfl
theorem q927 : (Jvm.Cond.fieldLinkNest "PassportOffice" (356 : Nat) "PassportOffice$Asking" "urgent" "Z" "PassportOffice") ∈ lw_tbl := lw_at lw_m4 134 rfl
theorem q929 : (Jvm.Cond.fieldLinkNest "PassportOffice" (222 : Nat) "PassportOffice$Asking" "ruling" "LPassportOffice$Ruling;" "PassportOffice") ∈ lw_tbl := lw_at lw_m4 136 rfl
theorem q945 : (Jvm.Cond.classLink "PassportOffice" (237 : Nat) "PassportOffice$Move") ∈ lw_all := lw_g (lw_at lw_m4 152 rfl) rfl
theorem q947 : (Jvm.Cond.methodLinkNest "PassportOffice" (273 : Nat) ({ cls := "PassportOffice$Move", name := "<init>", desc := "()V" } : Jvm.MethodName) "PassportOffice") ∈ lw_tbl := lw_at lw_m4 154 rfl
theorem q952 : (Jvm.Cond.fieldLinkNest "PassportOffice" (236 : Nat) "PassportOffice$Move" "state" "I" "PassportOffice") ∈ lw_tbl := lw_at lw_m4 159 rfl
theorem q954 : (Jvm.Cond.fieldLinkNest "PassportOffice" (274 : Nat) "PassportOffice$Move" "items" "I" "PassportOffice") ∈ lw_tbl := lw_at lw_m4 161 rfl
theorem q956 : (Jvm.Cond.fieldLinkNest "PassportOffice" (294 : Nat) "PassportOffice$Move" "booklet" "I" "PassportOffice") ∈ lw_tbl := lw_at lw_m4 163 rfl
theorem q958 : (Jvm.Cond.fieldLinkNest "PassportOffice" (320 : Nat) "PassportOffice$Move" "read" "I" "PassportOffice") ∈ lw_tbl := lw_at lw_m4 165 rfl
theorem q960 : (Jvm.Cond.fieldLinkNest "PassportOffice" (323 : Nat) "PassportOffice$Move" "got" "I" "PassportOffice") ∈ lw_tbl := lw_at lw_m4 167 rfl
theorem q962 : (Jvm.Cond.fieldLinkNest "PassportOffice" (305 : Nat) "PassportOffice$Move" "comes" "I" "PassportOffice") ∈ lw_tbl := lw_at lw_m4 169 rfl
theorem q964 : (Jvm.Cond.fieldLinkNest "PassportOffice" (326 : Nat) "PassportOffice$Move" "backs" "I" "PassportOffice") ∈ lw_tbl := lw_at lw_m4 171 rfl
theorem q966 : (Jvm.Cond.fieldLinkNest "PassportOffice" (317 : Nat) "PassportOffice$Move" "paidBack" "Z" "PassportOffice") ∈ lw_tbl := lw_at lw_m4 173 rfl
theorem q989 : (Jvm.Cond.instanceMethod ({ cls := "PassportOffice", name := "give", desc := "(II)I" } : Jvm.MethodName)) ∈ lw_all := lw_g (lw_at lw_m4 196 rfl) rfl
theorem q990 : (Jvm.Cond.selects "PassportOffice" ({ cls := "PassportOffice", name := "give", desc := "(II)I" } : Jvm.MethodName) ({ cls := "PassportOffice", name := "give", desc := "(II)I" } : Jvm.MethodName)) ∈ lw_all := lw_g (lw_at lw_m4 197 rfl) rfl
theorem q991 : (Jvm.Cond.code ({ cls := "PassportOffice", name := "give", desc := "(II)I" } : Jvm.MethodName) prog_1_method_32_code (5 : Nat) (Option.some Jvm.ClassFile.FieldType.int)) ∈ lw_all := lw_g (lw_at lw_m4 198 rfl) rfl
theorem q992 : (Jvm.Cond.methodLink "PassportOffice" (283 : Nat) ({ cls := "PassportOffice", name := "askingAt", desc := "(I)LPassportOffice$Asking;" } : Jvm.MethodName)) ∈ lw_all := lw_g (lw_at lw_m4 199 rfl) rfl
theorem q993 : (Jvm.Cond.privateMethod ({ cls := "PassportOffice", name := "askingAt", desc := "(I)LPassportOffice$Asking;" } : Jvm.MethodName)) ∈ lw_tbl := lw_at lw_m4 200 rfl
theorem q994 : (Jvm.Cond.instanceMethod ({ cls := "PassportOffice", name := "askingAt", desc := "(I)LPassportOffice$Asking;" } : Jvm.MethodName)) ∈ lw_all := lw_g (lw_at lw_m4 201 rfl) rfl
theorem q995 : (Jvm.Cond.code ({ cls := "PassportOffice", name := "askingAt", desc := "(I)LPassportOffice$Asking;" } : Jvm.MethodName) prog_1_method_8_code (2 : Nat) (Option.some (Jvm.ClassFile.FieldType.object "PassportOffice$Asking"))) ∈ lw_all := lw_g (lw_at lw_m4 202 rfl) rfl
theorem q996 : (Jvm.Cond.methodLink "PassportOffice" (287 : Nat) ({ cls := "PassportOffice", name := "may", desc := "(Z)V" } : Jvm.MethodName)) ∈ lw_all := lw_g (lw_at lw_m4 203 rfl) rfl
theorem q997 : (Jvm.Cond.static ({ cls := "PassportOffice", name := "may", desc := "(Z)V" } : Jvm.MethodName)) ∈ lw_all := lw_g (lw_at lw_m4 204 rfl) rfl
theorem q998 : (Jvm.Cond.code ({ cls := "PassportOffice", name := "may", desc := "(Z)V" } : Jvm.MethodName) prog_1_method_5_code (1 : Nat) (Option.none : Option Jvm.ClassFile.FieldType)) ∈ lw_all := lw_g (lw_at lw_m4 205 rfl) rfl
theorem q999 : (Jvm.Cond.classLink "PassportOffice" (108 : Nat) "java/lang/IllegalStateException") ∈ lw_all := lw_g (lw_at lw_m4 206 rfl) rfl
theorem q1008 : (Jvm.Cond.methodLink "PassportOffice" (110 : Nat) ({ cls := "java/lang/IllegalStateException", name := "<init>", desc := "()V" } : Jvm.MethodName)) ∈ lw_all := lw_g (lw_at lw_m4 215 rfl) rfl
theorem q1014 : (Jvm.Cond.methodLink "PassportOffice" (290 : Nat) ({ cls := "PassportOffice", name := "lacks", desc := "(LPassportOffice$Asking;LPassportOffice$Move;)I" } : Jvm.MethodName)) ∈ lw_all := lw_g (lw_at lw_m4 221 rfl) rfl
theorem q1015 : (Jvm.Cond.static ({ cls := "PassportOffice", name := "lacks", desc := "(LPassportOffice$Asking;LPassportOffice$Move;)I" } : Jvm.MethodName)) ∈ lw_all := lw_g (lw_at lw_m4 222 rfl) rfl
theorem q1016 : (Jvm.Cond.code ({ cls := "PassportOffice", name := "lacks", desc := "(LPassportOffice$Asking;LPassportOffice$Move;)I" } : Jvm.MethodName) prog_1_method_31_code (2 : Nat) (Option.some Jvm.ClassFile.FieldType.int)) ∈ lw_all := lw_g (lw_at lw_m4 223 rfl) rfl
theorem q1021 : (Jvm.Cond.instanceMethod ({ cls := "PassportOffice", name := "hands", desc := "(II)V" } : Jvm.MethodName)) ∈ lw_all := lw_g (lw_at lw_m4 228 rfl) rfl
theorem q1022 : (Jvm.Cond.selects "PassportOffice" ({ cls := "PassportOffice", name := "hands", desc := "(II)V" } : Jvm.MethodName) ({ cls := "PassportOffice", name := "hands", desc := "(II)V" } : Jvm.MethodName)) ∈ lw_all := lw_g (lw_at lw_m4 229 rfl) rfl
theorem q1023 : (Jvm.Cond.code ({ cls := "PassportOffice", name := "hands", desc := "(II)V" } : Jvm.MethodName) prog_1_method_37_code (3 : Nat) (Option.none : Option Jvm.ClassFile.FieldType)) ∈ lw_all := lw_g (lw_at lw_m4 230 rfl) rfl
theorem q1024 : (Jvm.Cond.methodLink "PassportOffice" (329 : Nat) ({ cls := "PassportOffice", name := "isDesk", desc := "(I)V" } : Jvm.MethodName)) ∈ lw_all := lw_g (lw_at lw_m4 231 rfl) rfl
theorem q1025 : (Jvm.Cond.static ({ cls := "PassportOffice", name := "isDesk", desc := "(I)V" } : Jvm.MethodName)) ∈ lw_all := lw_g (lw_at lw_m4 232 rfl) rfl
theorem q1026 : (Jvm.Cond.code ({ cls := "PassportOffice", name := "isDesk", desc := "(I)V" } : Jvm.MethodName) prog_1_method_9_code (1 : Nat) (Option.none : Option Jvm.ClassFile.FieldType)) ∈ lw_all := lw_g (lw_at lw_m4 233 rfl) rfl
theorem q1031 : (Jvm.Cond.instanceMethod ({ cls := "PassportOffice", name := "lend", desc := "(IIIII)I" } : Jvm.MethodName)) ∈ lw_all := lw_g (lw_at lw_m4 238 rfl) rfl
theorem q1032 : (Jvm.Cond.selects "PassportOffice" ({ cls := "PassportOffice", name := "lend", desc := "(IIIII)I" } : Jvm.MethodName) ({ cls := "PassportOffice", name := "lend", desc := "(IIIII)I" } : Jvm.MethodName)) ∈ lw_all := lw_g (lw_at lw_m4 239 rfl) rfl
theorem q1033 : (Jvm.Cond.code ({ cls := "PassportOffice", name := "lend", desc := "(IIIII)I" } : Jvm.MethodName) prog_1_method_38_code (6 : Nat) (Option.some Jvm.ClassFile.FieldType.int)) ∈ lw_all := lw_g (lw_at lw_m5 0 rfl) rfl
theorem q1035 : (Jvm.Cond.methodLink "PassportOffice" (335 : Nat) ({ cls := "PassportOffice$Loan", name := "<init>", desc := "(IIIII)V" } : Jvm.MethodName)) ∈ lw_all := lw_g (lw_at lw_m5 2 rfl) rfl
theorem q1040 : (Jvm.Cond.fieldLinkNest "PassportOffice" (338 : Nat) "PassportOffice$Loan" "desk" "I" "PassportOffice") ∈ lw_tbl := lw_at lw_m5 7 rfl
theorem q1060 : (Jvm.Cond.instanceMethod ({ cls := "PassportOffice", name := "units", desc := "(II)I" } : Jvm.MethodName)) ∈ lw_all := lw_g (lw_at lw_m5 27 rfl) rfl
theorem q1061 : (Jvm.Cond.selects "PassportOffice" ({ cls := "PassportOffice", name := "units", desc := "(II)I" } : Jvm.MethodName) ({ cls := "PassportOffice", name := "units", desc := "(II)I" } : Jvm.MethodName)) ∈ lw_all := lw_g (lw_at lw_m5 28 rfl) rfl
theorem q1062 : (Jvm.Cond.code ({ cls := "PassportOffice", name := "units", desc := "(II)I" } : Jvm.MethodName) prog_1_method_40_code (3 : Nat) (Option.some Jvm.ClassFile.FieldType.int)) ∈ lw_all := lw_g (lw_at lw_m5 29 rfl) rfl
theorem q1063 : (Jvm.Cond.methodLink "PassportOffice" (347 : Nat) ({ cls := "PassportOffice", name := "unitsOf", desc := "(II)I" } : Jvm.MethodName)) ∈ lw_all := lw_g (lw_at lw_m5 30 rfl) rfl
theorem q1064 : (Jvm.Cond.privateMethod ({ cls := "PassportOffice", name := "unitsOf", desc := "(II)I" } : Jvm.MethodName)) ∈ lw_tbl := lw_at lw_m5 31 rfl
theorem q1065 : (Jvm.Cond.instanceMethod ({ cls := "PassportOffice", name := "unitsOf", desc := "(II)I" } : Jvm.MethodName)) ∈ lw_all := lw_g (lw_at lw_m5 32 rfl) rfl
theorem q1066 : (Jvm.Cond.code ({ cls := "PassportOffice", name := "unitsOf", desc := "(II)I" } : Jvm.MethodName) prog_1_method_39_code (5 : Nat) (Option.some Jvm.ClassFile.FieldType.int)) ∈ lw_all := lw_g (lw_at lw_m5 33 rfl) rfl
theorem q1067 : (Jvm.Cond.methodLink "PassportOffice" (341 : Nat) ({ cls := "PassportOffice$Loan", name := "units", desc := "(I)I" } : Jvm.MethodName)) ∈ lw_all := lw_g (lw_at lw_m5 34 rfl) rfl
theorem q1071 : (Jvm.Cond.methodLink "PassportOffice" (344 : Nat) ({ cls := "java/lang/Math", name := "max", desc := "(II)I" } : Jvm.MethodName)) ∈ lw_all := lw_g (lw_at lw_m5 38 rfl) rfl
theorem q1076 : (Jvm.Cond.instanceMethod ({ cls := "PassportOffice", name := "rules", desc := "(IIIII)V" } : Jvm.MethodName)) ∈ lw_all := lw_g (lw_at lw_m5 43 rfl) rfl
theorem q1077 : (Jvm.Cond.selects "PassportOffice" ({ cls := "PassportOffice", name := "rules", desc := "(IIIII)V" } : Jvm.MethodName) ({ cls := "PassportOffice", name := "rules", desc := "(IIIII)V" } : Jvm.MethodName)) ∈ lw_all := lw_g (lw_at lw_m5 44 rfl) rfl
theorem q1078 : (Jvm.Cond.code ({ cls := "PassportOffice", name := "rules", desc := "(IIIII)V" } : Jvm.MethodName) prog_1_method_41_code (6 : Nat) (Option.none : Option Jvm.ClassFile.FieldType)) ∈ lw_all := lw_g (lw_at lw_m5 45 rfl) rfl
theorem q1083 : (Jvm.Cond.instanceMethod ({ cls := "PassportOffice", name := "order", desc := "(I)V" } : Jvm.MethodName)) ∈ lw_all := lw_g (lw_at lw_m5 50 rfl) rfl
theorem q1084 : (Jvm.Cond.selects "PassportOffice" ({ cls := "PassportOffice", name := "order", desc := "(I)V" } : Jvm.MethodName) ({ cls := "PassportOffice", name := "order", desc := "(I)V" } : Jvm.MethodName)) ∈ lw_all := lw_g (lw_at lw_m5 51 rfl) rfl
theorem q1085 : (Jvm.Cond.code ({ cls := "PassportOffice", name := "order", desc := "(I)V" } : Jvm.MethodName) prog_1_method_42_code (2 : Nat) (Option.none : Option Jvm.ClassFile.FieldType)) ∈ lw_all := lw_g (lw_at lw_m5 52 rfl) rfl
theorem q1090 : (Jvm.Cond.instanceMethod ({ cls := "PassportOffice", name := "blanks", desc := "(I)I" } : Jvm.MethodName)) ∈ lw_all := lw_g (lw_at lw_m5 57 rfl) rfl
theorem q1091 : (Jvm.Cond.selects "PassportOffice" ({ cls := "PassportOffice", name := "blanks", desc := "(I)I" } : Jvm.MethodName) ({ cls := "PassportOffice", name := "blanks", desc := "(I)I" } : Jvm.MethodName)) ∈ lw_all := lw_g (lw_at lw_m5 58 rfl) rfl
theorem q1092 : (Jvm.Cond.code ({ cls := "PassportOffice", name := "blanks", desc := "(I)I" } : Jvm.MethodName) prog_1_method_43_code (2 : Nat) (Option.some Jvm.ClassFile.FieldType.int)) ∈ lw_all := lw_g (lw_at lw_m5 59 rfl) rfl
theorem q1097 : (Jvm.Cond.instanceMethod ({ cls := "PassportOffice", name := "broken", desc := "(II)V" } : Jvm.MethodName)) ∈ lw_all := lw_g (lw_at lw_m5 64 rfl) rfl
theorem q1098 : (Jvm.Cond.selects "PassportOffice" ({ cls := "PassportOffice", name := "broken", desc := "(II)V" } : Jvm.MethodName) ({ cls := "PassportOffice", name := "broken", desc := "(II)V" } : Jvm.MethodName)) ∈ lw_all := lw_g (lw_at lw_m5 65 rfl) rfl
theorem q1099 : (Jvm.Cond.code ({ cls := "PassportOffice", name := "broken", desc := "(II)V" } : Jvm.MethodName) prog_1_method_44_code (3 : Nat) (Option.none : Option Jvm.ClassFile.FieldType)) ∈ lw_all := lw_g (lw_at lw_m5 66 rfl) rfl
theorem q1104 : (Jvm.Cond.instanceMethod ({ cls := "PassportOffice", name := "days", desc := "(I)I" } : Jvm.MethodName)) ∈ lw_all := lw_g (lw_at lw_m5 71 rfl) rfl
theorem q1105 : (Jvm.Cond.selects "PassportOffice" ({ cls := "PassportOffice", name := "days", desc := "(I)I" } : Jvm.MethodName) ({ cls := "PassportOffice", name := "days", desc := "(I)I" } : Jvm.MethodName)) ∈ lw_all := lw_g (lw_at lw_m5 72 rfl) rfl
theorem q1106 : (Jvm.Cond.code ({ cls := "PassportOffice", name := "days", desc := "(I)I" } : Jvm.MethodName) prog_1_method_58_code (3 : Nat) (Option.some Jvm.ClassFile.FieldType.int)) ∈ lw_all := lw_g (lw_at lw_m5 73 rfl) rfl
theorem q1107 : (Jvm.Cond.methodLink "PassportOffice" (407 : Nat) ({ cls := "PassportOffice", name := "day", desc := "(LPassportOffice$World;I)V" } : Jvm.MethodName)) ∈ lw_all := lw_g (lw_at lw_m5 74 rfl) rfl
theorem q1108 : (Jvm.Cond.privateMethod ({ cls := "PassportOffice", name := "day", desc := "(LPassportOffice$World;I)V" } : Jvm.MethodName)) ∈ lw_tbl := lw_at lw_m5 75 rfl
theorem q1109 : (Jvm.Cond.instanceMethod ({ cls := "PassportOffice", name := "day", desc := "(LPassportOffice$World;I)V" } : Jvm.MethodName)) ∈ lw_all := lw_g (lw_at lw_m5 76 rfl) rfl
theorem q1110 : (Jvm.Cond.code ({ cls := "PassportOffice", name := "day", desc := "(LPassportOffice$World;I)V" } : Jvm.MethodName) prog_1_method_53_code (5 : Nat) (Option.none : Option Jvm.ClassFile.FieldType)) ∈ lw_all := lw_g (lw_at lw_m5 77 rfl) rfl
theorem q1111 : (Jvm.Cond.methodLink "PassportOffice" (376 : Nat) ({ cls := "PassportOffice", name := "gets", desc := "(LPassportOffice$World;I)V" } : Jvm.MethodName)) ∈ lw_all := lw_g (lw_at lw_m5 78 rfl) rfl
theorem q1112 : (Jvm.Cond.privateMethod ({ cls := "PassportOffice", name := "gets", desc := "(LPassportOffice$World;I)V" } : Jvm.MethodName)) ∈ lw_tbl := lw_at lw_m5 79 rfl
theorem q1113 : (Jvm.Cond.instanceMethod ({ cls := "PassportOffice", name := "gets", desc := "(LPassportOffice$World;I)V" } : Jvm.MethodName)) ∈ lw_all := lw_g (lw_at lw_m5 80 rfl) rfl
theorem q1114 : (Jvm.Cond.code ({ cls := "PassportOffice", name := "gets", desc := "(LPassportOffice$World;I)V" } : Jvm.MethodName) prog_1_method_52_code (5 : Nat) (Option.none : Option Jvm.ClassFile.FieldType)) ∈ lw_all := lw_g (lw_at lw_m5 81 rfl) rfl
theorem q1115 : (Jvm.Cond.methodLink "PassportOffice" (380 : Nat) ({ cls := "PassportOffice", name := "callsOf", desc := "(LPassportOffice$World;)I" } : Jvm.MethodName)) ∈ lw_all := lw_g (lw_at lw_m5 82 rfl) rfl
theorem q1116 : (Jvm.Cond.privateMethod ({ cls := "PassportOffice", name := "callsOf", desc := "(LPassportOffice$World;)I" } : Jvm.MethodName)) ∈ lw_tbl := lw_at lw_m5 83 rfl
theorem q1117 : (Jvm.Cond.instanceMethod ({ cls := "PassportOffice", name := "callsOf", desc := "(LPassportOffice$World;)I" } : Jvm.MethodName)) ∈ lw_all := lw_g (lw_at lw_m5 84 rfl) rfl
theorem q1118 : (Jvm.Cond.code ({ cls := "PassportOffice", name := "callsOf", desc := "(LPassportOffice$World;)I" } : Jvm.MethodName) prog_1_method_51_code (4 : Nat) (Option.some Jvm.ClassFile.FieldType.int)) ∈ lw_all := lw_g (lw_at lw_m5 85 rfl) rfl
theorem q1119 : (Jvm.Cond.methodLink "PassportOffice" (390 : Nat) ({ cls := "PassportOffice", name := "work", desc := "(LPassportOffice$World;III)I" } : Jvm.MethodName)) ∈ lw_all := lw_g (lw_at lw_m5 86 rfl) rfl
theorem q1120 : (Jvm.Cond.privateMethod ({ cls := "PassportOffice", name := "work", desc := "(LPassportOffice$World;III)I" } : Jvm.MethodName)) ∈ lw_tbl := lw_at lw_m5 87 rfl
theorem q1121 : (Jvm.Cond.instanceMethod ({ cls := "PassportOffice", name := "work", desc := "(LPassportOffice$World;III)I" } : Jvm.MethodName)) ∈ lw_all := lw_g (lw_at lw_m5 88 rfl) rfl
theorem q1122 : (Jvm.Cond.code ({ cls := "PassportOffice", name := "work", desc := "(LPassportOffice$World;III)I" } : Jvm.MethodName) prog_1_method_55_code (11 : Nat) (Option.some Jvm.ClassFile.FieldType.int)) ∈ lw_all := lw_g (lw_at lw_m5 89 rfl) rfl
theorem q1123 : (Jvm.Cond.methodLink "PassportOffice" (370 : Nat) ({ cls := "PassportOffice", name := "line", desc := "(LPassportOffice$World;II)I" } : Jvm.MethodName)) ∈ lw_all := lw_g (lw_at lw_m5 90 rfl) rfl
theorem q1124 : (Jvm.Cond.privateMethod ({ cls := "PassportOffice", name := "line", desc := "(LPassportOffice$World;II)I" } : Jvm.MethodName)) ∈ lw_tbl := lw_at lw_m5 91 rfl
theorem q1125 : (Jvm.Cond.instanceMethod ({ cls := "PassportOffice", name := "line", desc := "(LPassportOffice$World;II)I" } : Jvm.MethodName)) ∈ lw_all := lw_g (lw_at lw_m5 92 rfl) rfl
theorem q1126 : (Jvm.Cond.code ({ cls := "PassportOffice", name := "line", desc := "(LPassportOffice$World;II)I" } : Jvm.MethodName) prog_1_method_48_code (7 : Nat) (Option.some Jvm.ClassFile.FieldType.int)) ∈ lw_all := lw_g (lw_at lw_m5 93 rfl) rfl
theorem q1127 : (Jvm.Cond.methodLink "PassportOffice" (363 : Nat) ({ cls := "PassportOffice", name := "deskOf", desc := "(I)I" } : Jvm.MethodName)) ∈ lw_all := lw_g (lw_at lw_m5 94 rfl) rfl
theorem q1128 : (Jvm.Cond.static ({ cls := "PassportOffice", name := "deskOf", desc := "(I)I" } : Jvm.MethodName)) ∈ lw_all := lw_g (lw_at lw_m5 95 rfl) rfl
theorem q1129 : (Jvm.Cond.code ({ cls := "PassportOffice", name := "deskOf", desc := "(I)I" } : Jvm.MethodName) prog_1_method_45_code (1 : Nat) (Option.some Jvm.ClassFile.FieldType.int)) ∈ lw_all := lw_g (lw_at lw_m5 96 rfl) rfl
theorem q1130 : (Jvm.Cond.methodLink "PassportOffice" (366 : Nat) ({ cls := "PassportOffice", name := "isAhead", desc := "(LPassportOffice$World;III)Z" } : Jvm.MethodName)) ∈ lw_all := lw_g (lw_at lw_m5 97 rfl) rfl
theorem q1131 : (Jvm.Cond.privateMethod ({ cls := "PassportOffice", name := "isAhead", desc := "(LPassportOffice$World;III)Z" } : Jvm.MethodName)) ∈ lw_tbl := lw_at lw_m5 98 rfl
theorem q1132 : (Jvm.Cond.instanceMethod ({ cls := "PassportOffice", name := "isAhead", desc := "(LPassportOffice$World;III)Z" } : Jvm.MethodName)) ∈ lw_all := lw_g (lw_at lw_m5 99 rfl) rfl
theorem q1133 : (Jvm.Cond.code ({ cls := "PassportOffice", name := "isAhead", desc := "(LPassportOffice$World;III)Z" } : Jvm.MethodName) prog_1_method_47_code (10 : Nat) (Option.some Jvm.ClassFile.FieldType.boolean)) ∈ lw_all := lw_g (lw_at lw_m5 100 rfl) rfl
theorem q1134 : (Jvm.Cond.methodLink "PassportOffice" (359 : Nat) ({ cls := "PassportOffice", name := "hasTicket", desc := "(LPassportOffice$Move;)Z" } : Jvm.MethodName)) ∈ lw_all := lw_g (lw_at lw_m5 101 rfl) rfl
theorem q1135 : (Jvm.Cond.static ({ cls := "PassportOffice", name := "hasTicket", desc := "(LPassportOffice$Move;)Z" } : Jvm.MethodName)) ∈ lw_all := lw_g (lw_at lw_m5 102 rfl) rfl
theorem q1136 : (Jvm.Cond.code ({ cls := "PassportOffice", name := "hasTicket", desc := "(LPassportOffice$Move;)Z" } : Jvm.MethodName) prog_1_method_46_code (1 : Nat) (Option.some Jvm.ClassFile.FieldType.boolean)) ∈ lw_all := lw_g (lw_at lw_m5 103 rfl) rfl
theorem q1137 : (Jvm.Cond.methodLink "PassportOffice" (394 : Nat) ({ cls := "PassportOffice", name := "costs", desc := "(LPassportOffice$World;II)I" } : Jvm.MethodName)) ∈ lw_all := lw_g (lw_at lw_m5 104 rfl) rfl
theorem q1138 : (Jvm.Cond.privateMethod ({ cls := "PassportOffice", name := "costs", desc := "(LPassportOffice$World;II)I" } : Jvm.MethodName)) ∈ lw_tbl := lw_at lw_m5 105 rfl
theorem q1139 : (Jvm.Cond.instanceMethod ({ cls := "PassportOffice", name := "costs", desc := "(LPassportOffice$World;II)I" } : Jvm.MethodName)) ∈ lw_all := lw_g (lw_at lw_m5 106 rfl) rfl
theorem q1140 : (Jvm.Cond.code ({ cls := "PassportOffice", name := "costs", desc := "(LPassportOffice$World;II)I" } : Jvm.MethodName) prog_1_method_54_code (4 : Nat) (Option.some Jvm.ClassFile.FieldType.int)) ∈ lw_all := lw_g (lw_at lw_m5 107 rfl) rfl
theorem q1141 : (Jvm.Cond.methodLink "PassportOffice" (397 : Nat) ({ cls := "PassportOffice", name := "does", desc := "(LPassportOffice$World;II)V" } : Jvm.MethodName)) ∈ lw_all := lw_g (lw_at lw_m5 108 rfl) rfl
theorem q1142 : (Jvm.Cond.privateMethod ({ cls := "PassportOffice", name := "does", desc := "(LPassportOffice$World;II)V" } : Jvm.MethodName)) ∈ lw_tbl := lw_at lw_m5 109 rfl
theorem q1143 : (Jvm.Cond.instanceMethod ({ cls := "PassportOffice", name := "does", desc := "(LPassportOffice$World;II)V" } : Jvm.MethodName)) ∈ lw_all := lw_g (lw_at lw_m5 110 rfl) rfl
theorem q1144 : (Jvm.Cond.code ({ cls := "PassportOffice", name := "does", desc := "(LPassportOffice$World;II)V" } : Jvm.MethodName) prog_1_method_56_code (6 : Nat) (Option.none : Option Jvm.ClassFile.FieldType)) ∈ lw_all := lw_g (lw_at lw_m5 111 rfl) rfl
theorem q1145 : (Jvm.Cond.methodLink "PassportOffice" (401 : Nat) ({ cls := "PassportOffice", name := "print", desc := "(LPassportOffice$World;I)V" } : Jvm.MethodName)) ∈ lw_all := lw_g (lw_at lw_m5 112 rfl) rfl
theorem q1146 : (Jvm.Cond.privateMethod ({ cls := "PassportOffice", name := "print", desc := "(LPassportOffice$World;I)V" } : Jvm.MethodName)) ∈ lw_tbl := lw_at lw_m5 113 rfl
theorem q1147 : (Jvm.Cond.instanceMethod ({ cls := "PassportOffice", name := "print", desc := "(LPassportOffice$World;I)V" } : Jvm.MethodName)) ∈ lw_all := lw_g (lw_at lw_m5 114 rfl) rfl
theorem q1148 : (Jvm.Cond.code ({ cls := "PassportOffice", name := "print", desc := "(LPassportOffice$World;I)V" } : Jvm.MethodName) prog_1_method_57_code (6 : Nat) (Option.none : Option Jvm.ClassFile.FieldType)) ∈ lw_all := lw_g (lw_at lw_m5 115 rfl) rfl
theorem q1150 : (Jvm.Cond.methodLink "PassportOffice" (404 : Nat) ({ cls := "PassportOffice$Booklet", name := "<init>", desc := "(IIII)V" } : Jvm.MethodName)) ∈ lw_all := lw_g (lw_at lw_m5 117 rfl) rfl
theorem q1155 : (Jvm.Cond.fieldLinkNest "PassportOffice" (169 : Nat) "PassportOffice$Booklet" "person" "I" "PassportOffice") ∈ lw_tbl := lw_at lw_m5 122 rfl
theorem q1157 : (Jvm.Cond.fieldLinkNest "PassportOffice" (413 : Nat) "PassportOffice$Booklet" "first" "I" "PassportOffice") ∈ lw_tbl := lw_at lw_m5 124 rfl
theorem q1159 : (Jvm.Cond.fieldLinkNest "PassportOffice" (416 : Nat) "PassportOffice$Booklet" "asking" "I" "PassportOffice") ∈ lw_tbl := lw_at lw_m5 126 rfl
theorem q1161 : (Jvm.Cond.fieldLinkNest "PassportOffice" (297 : Nat) "PassportOffice$Booklet" "end" "I" "PassportOffice") ∈ lw_tbl := lw_at lw_m5 128 rfl
theorem q1175 : (Jvm.Cond.instanceMethod ({ cls := "PassportOffice", name := "refuse", desc := "(I)V" } : Jvm.MethodName)) ∈ lw_all := lw_g (lw_at lw_m5 142 rfl) rfl
theorem q1176 : (Jvm.Cond.selects "PassportOffice" ({ cls := "PassportOffice", name := "refuse", desc := "(I)V" } : Jvm.MethodName) ({ cls := "PassportOffice", name := "refuse", desc := "(I)V" } : Jvm.MethodName)) ∈ lw_all := lw_g (lw_at lw_m5 143 rfl) rfl
theorem q1177 : (Jvm.Cond.code ({ cls := "PassportOffice", name := "refuse", desc := "(I)V" } : Jvm.MethodName) prog_1_method_33_code (4 : Nat) (Option.none : Option Jvm.ClassFile.FieldType)) ∈ lw_all := lw_g (lw_at lw_m5 144 rfl) rfl
theorem q1182 : (Jvm.Cond.instanceMethod ({ cls := "PassportOffice", name := "lose", desc := "(I)V" } : Jvm.MethodName)) ∈ lw_all := lw_g (lw_at lw_m5 149 rfl) rfl
theorem q1183 : (Jvm.Cond.selects "PassportOffice" ({ cls := "PassportOffice", name := "lose", desc := "(I)V" } : Jvm.MethodName) ({ cls := "PassportOffice", name := "lose", desc := "(I)V" } : Jvm.MethodName)) ∈ lw_all := lw_g (lw_at lw_m5 150 rfl) rfl
theorem q1184 : (Jvm.Cond.code ({ cls := "PassportOffice", name := "lose", desc := "(I)V" } : Jvm.MethodName) prog_1_method_34_code (5 : Nat) (Option.none : Option Jvm.ClassFile.FieldType)) ∈ lw_all := lw_g (lw_at lw_m5 151 rfl) rfl
theorem q1185 : (Jvm.Cond.methodLink "PassportOffice" (300 : Nat) ({ cls := "java/lang/Math", name := "min", desc := "(II)I" } : Jvm.MethodName)) ∈ lw_all := lw_g (lw_at lw_m5 152 rfl) rfl
theorem q1190 : (Jvm.Cond.instanceMethod ({ cls := "PassportOffice", name := "again", desc := "(I)V" } : Jvm.MethodName)) ∈ lw_all := lw_g (lw_at lw_m5 157 rfl) rfl
theorem q1191 : (Jvm.Cond.selects "PassportOffice" ({ cls := "PassportOffice", name := "again", desc := "(I)V" } : Jvm.MethodName) ({ cls := "PassportOffice", name := "again", desc := "(I)V" } : Jvm.MethodName)) ∈ lw_all := lw_g (lw_at lw_m5 158 rfl) rfl
theorem q1192 : (Jvm.Cond.code ({ cls := "PassportOffice", name := "again", desc := "(I)V" } : Jvm.MethodName) prog_1_method_35_code (4 : Nat) (Option.none : Option Jvm.ClassFile.FieldType)) ∈ lw_all := lw_g (lw_at lw_m5 159 rfl) rfl
theorem q1197 : (Jvm.Cond.instanceMethod ({ cls := "PassportOffice", name := "led", desc := "(II)I" } : Jvm.MethodName)) ∈ lw_all := lw_g (lw_at lw_m5 164 rfl) rfl
theorem q1198 : (Jvm.Cond.selects "PassportOffice" ({ cls := "PassportOffice", name := "led", desc := "(II)I" } : Jvm.MethodName) ({ cls := "PassportOffice", name := "led", desc := "(II)I" } : Jvm.MethodName)) ∈ lw_all := lw_g (lw_at lw_m5 165 rfl) rfl
theorem q1199 : (Jvm.Cond.code ({ cls := "PassportOffice", name := "led", desc := "(II)I" } : Jvm.MethodName) prog_1_method_36_code (5 : Nat) (Option.some Jvm.ClassFile.FieldType.int)) ∈ lw_all := lw_g (lw_at lw_m5 166 rfl) rfl
theorem q1204 : (Jvm.Cond.instanceMethod ({ cls := "PassportOffice", name := "queue", desc := "(I)I" } : Jvm.MethodName)) ∈ lw_all := lw_g (lw_at lw_m5 171 rfl) rfl
theorem q1205 : (Jvm.Cond.selects "PassportOffice" ({ cls := "PassportOffice", name := "queue", desc := "(I)I" } : Jvm.MethodName) ({ cls := "PassportOffice", name := "queue", desc := "(I)I" } : Jvm.MethodName)) ∈ lw_all := lw_g (lw_at lw_m5 172 rfl) rfl
theorem q1206 : (Jvm.Cond.code ({ cls := "PassportOffice", name := "queue", desc := "(I)I" } : Jvm.MethodName) prog_1_method_49_code (2 : Nat) (Option.some Jvm.ClassFile.FieldType.int)) ∈ lw_all := lw_g (lw_at lw_m5 173 rfl) rfl
theorem q1211 : (Jvm.Cond.instanceMethod ({ cls := "PassportOffice", name := "ahead", desc := "(I)I" } : Jvm.MethodName)) ∈ lw_all := lw_g (lw_at lw_m5 178 rfl) rfl
theorem q1212 : (Jvm.Cond.selects "PassportOffice" ({ cls := "PassportOffice", name := "ahead", desc := "(I)I" } : Jvm.MethodName) ({ cls := "PassportOffice", name := "ahead", desc := "(I)I" } : Jvm.MethodName)) ∈ lw_all := lw_g (lw_at lw_m5 179 rfl) rfl
theorem q1213 : (Jvm.Cond.code ({ cls := "PassportOffice", name := "ahead", desc := "(I)I" } : Jvm.MethodName) prog_1_method_50_code (6 : Nat) (Option.some Jvm.ClassFile.FieldType.int)) ∈ lw_all := lw_g (lw_at lw_m5 180 rfl) rfl
theorem q1218 : (Jvm.Cond.instanceMethod ({ cls := "PassportOffice", name := "booklet", desc := "(II)I" } : Jvm.MethodName)) ∈ lw_all := lw_g (lw_at lw_m5 185 rfl) rfl
theorem q1219 : (Jvm.Cond.selects "PassportOffice" ({ cls := "PassportOffice", name := "booklet", desc := "(II)I" } : Jvm.MethodName) ({ cls := "PassportOffice", name := "booklet", desc := "(II)I" } : Jvm.MethodName)) ∈ lw_all := lw_g (lw_at lw_m5 186 rfl) rfl
theorem q1220 : (Jvm.Cond.code ({ cls := "PassportOffice", name := "booklet", desc := "(II)I" } : Jvm.MethodName) prog_1_method_59_code (4 : Nat) (Option.some Jvm.ClassFile.FieldType.int)) ∈ lw_all := lw_g (lw_at lw_m5 187 rfl) rfl
theorem q1225 : (Jvm.Cond.instanceMethod ({ cls := "PassportOffice", name := "valid", desc := "(II)I" } : Jvm.MethodName)) ∈ lw_all := lw_g (lw_at lw_m5 192 rfl) rfl
theorem q1226 : (Jvm.Cond.selects "PassportOffice" ({ cls := "PassportOffice", name := "valid", desc := "(II)I" } : Jvm.MethodName) ({ cls := "PassportOffice", name := "valid", desc := "(II)I" } : Jvm.MethodName)) ∈ lw_all := lw_g (lw_at lw_m5 193 rfl) rfl
theorem q1227 : (Jvm.Cond.code ({ cls := "PassportOffice", name := "valid", desc := "(II)I" } : Jvm.MethodName) prog_1_method_60_code (4 : Nat) (Option.some Jvm.ClassFile.FieldType.int)) ∈ lw_all := lw_g (lw_at lw_m5 194 rfl) rfl
theorem q1232 : (Jvm.Cond.instanceMethod ({ cls := "PassportOffice", name := "missed", desc := "(II)I" } : Jvm.MethodName)) ∈ lw_all := lw_g (lw_at lw_m5 199 rfl) rfl
theorem q1233 : (Jvm.Cond.selects "PassportOffice" ({ cls := "PassportOffice", name := "missed", desc := "(II)I" } : Jvm.MethodName) ({ cls := "PassportOffice", name := "missed", desc := "(II)I" } : Jvm.MethodName)) ∈ lw_all := lw_g (lw_at lw_m5 200 rfl) rfl
theorem q1234 : (Jvm.Cond.code ({ cls := "PassportOffice", name := "missed", desc := "(II)I" } : Jvm.MethodName) prog_1_method_61_code (6 : Nat) (Option.some Jvm.ClassFile.FieldType.int)) ∈ lw_all := lw_g (lw_at lw_m5 201 rfl) rfl
theorem q1235 : (Jvm.Cond.methodLink "PassportOffice" (419 : Nat) ({ cls := "PassportOffice$World", name := "be", desc := "(LPassportOffice$World;I)V" } : Jvm.MethodName)) ∈ lw_all := lw_g (lw_at lw_m5 202 rfl) rfl
theorem q1248 : (Jvm.Cond.instanceMethod ({ cls := "PassportOffice", name := "waits", desc := "(IZ)I" } : Jvm.MethodName)) ∈ lw_all := lw_g (lw_at lw_m5 215 rfl) rfl
theorem q1249 : (Jvm.Cond.selects "PassportOffice" ({ cls := "PassportOffice", name := "waits", desc := "(IZ)I" } : Jvm.MethodName) ({ cls := "PassportOffice", name := "waits", desc := "(IZ)I" } : Jvm.MethodName)) ∈ lw_all := lw_g (lw_at lw_m5 216 rfl) rfl
theorem q1250 : (Jvm.Cond.code ({ cls := "PassportOffice", name := "waits", desc := "(IZ)I" } : Jvm.MethodName) prog_1_method_63_code (10 : Nat) (Option.some Jvm.ClassFile.FieldType.int)) ∈ lw_all := lw_g (lw_at lw_m5 217 rfl) rfl
theorem q1251 : (Jvm.Cond.methodLink "PassportOffice" (422 : Nat) ({ cls := "PassportOffice", name := "isGotAhead", desc := "(II)Z" } : Jvm.MethodName)) ∈ lw_all := lw_g (lw_at lw_m5 218 rfl) rfl
theorem q1252 : (Jvm.Cond.privateMethod ({ cls := "PassportOffice", name := "isGotAhead", desc := "(II)Z" } : Jvm.MethodName)) ∈ lw_tbl := lw_at lw_m5 219 rfl
theorem q1253 : (Jvm.Cond.instanceMethod ({ cls := "PassportOffice", name := "isGotAhead", desc := "(II)Z" } : Jvm.MethodName)) ∈ lw_all := lw_g (lw_at lw_m5 220 rfl) rfl
theorem q1254 : (Jvm.Cond.code ({ cls := "PassportOffice", name := "isGotAhead", desc := "(II)Z" } : Jvm.MethodName) prog_1_method_62_code (5 : Nat) (Option.some Jvm.ClassFile.FieldType.boolean)) ∈ lw_all := lw_g (lw_at lw_m5 221 rfl) rfl
theorem q1870 : (Jvm.Cond.castable "PassportOffice" "java/lang/Object") ∈ lw_tbl := lw_at lw_m8 117 rfl
theorem in_X1 : ∀ w ∈ wsX10, w ∈ lw_all := lw_in wsX10 [335, 337, 339, 341, 343, 345, 347, 349, 351, 353, 355, 357, 359, 361, 363, 365, 367, 369, 371, 373, 375, 377, 379, 381, 383, 385, 387, 389, 391] (by decide +kernel) (by decide +kernel)
theorem q91 : (Jvm.Cond.initialized "PassportOffice$Pair") ∈ lw_all := lw_g (lw_at lw_m1 18 rfl) rfl
theorem q594 : (Jvm.Cond.instantiable "PassportOffice$Pair" (3 : Nat)) ∈ lw_all := lw_g (lw_at lw_m3 41 rfl) rfl
theorem q596 : (Jvm.Cond.instanceMethod ({ cls := "PassportOffice$Pair", name := "<init>", desc := "(LPassportOffice$Cond;LPassportOffice$Cond;Z)V" } : Jvm.MethodName)) ∈ lw_all := lw_g (lw_at lw_m3 43 rfl) rfl
theorem q597 : (Jvm.Cond.code ({ cls := "PassportOffice$Pair", name := "<init>", desc := "(LPassportOffice$Cond;LPassportOffice$Cond;Z)V" } : Jvm.MethodName) prog_11_method_1_code (4 : Nat) (Option.none : Option Jvm.ClassFile.FieldType)) ∈ lw_all := lw_g (lw_at lw_m3 44 rfl) rfl
theorem q598 : (Jvm.Cond.methodLinkNest "PassportOffice$Pair" (1 : Nat) ({ cls := "PassportOffice$Cond", name := "<init>", desc := "()V" } : Jvm.MethodName) "PassportOffice") ∈ lw_tbl := lw_at lw_m3 45 rfl
theorem q599 : (Jvm.Cond.fieldLink "PassportOffice$Pair" (7 : Nat) "PassportOffice$Pair" "one" "LPassportOffice$Cond;") ∈ lw_all := lw_g (lw_at lw_m3 46 rfl) rfl
theorem q600 : (Jvm.Cond.fieldLink "PassportOffice$Pair" (13 : Nat) "PassportOffice$Pair" "other" "LPassportOffice$Cond;") ∈ lw_all := lw_g (lw_at lw_m3 47 rfl) rfl
theorem q601 : (Jvm.Cond.fieldLink "PassportOffice$Pair" (16 : Nat) "PassportOffice$Pair" "both" "Z") ∈ lw_all := lw_g (lw_at lw_m3 48 rfl) rfl
theorem q602 : (Jvm.Cond.laysFinal "PassportOffice$Pair" "PassportOffice$Pair" "one" "LPassportOffice$Cond;") ∈ lw_all := lw_g (lw_at lw_m3 49 rfl) rfl
theorem q603 : (Jvm.Cond.soleField "PassportOffice$Pair" "one") ∈ lw_all := lw_g (lw_at lw_m3 50 rfl) rfl
theorem q604 : (Jvm.Cond.laysFinal "PassportOffice$Pair" "PassportOffice$Pair" "other" "LPassportOffice$Cond;") ∈ lw_all := lw_g (lw_at lw_m3 51 rfl) rfl
theorem q605 : (Jvm.Cond.soleField "PassportOffice$Pair" "other") ∈ lw_all := lw_g (lw_at lw_m3 52 rfl) rfl
theorem q606 : (Jvm.Cond.laysFinal "PassportOffice$Pair" "PassportOffice$Pair" "both" "Z") ∈ lw_all := lw_g (lw_at lw_m3 53 rfl) rfl
theorem q607 : (Jvm.Cond.soleField "PassportOffice$Pair" "both") ∈ lw_all := lw_g (lw_at lw_m3 54 rfl) rfl
theorem q608 : (Jvm.Cond.superclass "PassportOffice$Pair" "PassportOffice$Cond") ∈ lw_all := lw_g (lw_at lw_m3 55 rfl) rfl
theorem q876 : (Jvm.Cond.instanceMethod ({ cls := "PassportOffice$Pair", name := "holds", desc := "([I)Z" } : Jvm.MethodName)) ∈ lw_all := lw_g (lw_at lw_m4 83 rfl) rfl
theorem q877 : (Jvm.Cond.code ({ cls := "PassportOffice$Pair", name := "holds", desc := "([I)Z" } : Jvm.MethodName) prog_11_method_2_code (2 : Nat) (Option.some Jvm.ClassFile.FieldType.boolean)) ∈ lw_all := lw_g (lw_at lw_m4 84 rfl) rfl
theorem q878 : (Jvm.Cond.methodLink "PassportOffice$Pair" (20 : Nat) ({ cls := "PassportOffice$Cond", name := "holds", desc := "([I)Z" } : Jvm.MethodName)) ∈ lw_all := lw_g (lw_at lw_m4 85 rfl) rfl
theorem q879 : (Jvm.Cond.selects "PassportOffice$Pair" ({ cls := "PassportOffice$Cond", name := "holds", desc := "([I)Z" } : Jvm.MethodName) ({ cls := "PassportOffice$Pair", name := "holds", desc := "([I)Z" } : Jvm.MethodName)) ∈ lw_all := lw_g (lw_at lw_m4 86 rfl) rfl
theorem q1879 : (Jvm.Cond.castable "PassportOffice$Pair" "java/lang/Object") ∈ lw_tbl := lw_at lw_m8 126 rfl
theorem in_X10 : ∀ w ∈ wsX100, w ∈ lw_all := lw_in wsX100 [602, 604, 606] (by decide +kernel) (by decide +kernel)
theorem q92 : (Jvm.Cond.initialized "PassportOffice$Law") ∈ lw_all := lw_g (lw_at lw_m1 19 rfl) rfl
theorem q615 : (Jvm.Cond.fieldLinkNest "PassportOffice$Law" (43 : Nat) "PassportOffice$Clause" "word" "I" "PassportOffice") ∈ lw_tbl := lw_at lw_m3 62 rfl
theorem q617 : (Jvm.Cond.fieldLinkNest "PassportOffice$Law" (49 : Nat) "PassportOffice$Clause" "number" "I" "PassportOffice") ∈ lw_tbl := lw_at lw_m3 64 rfl
theorem q619 : (Jvm.Cond.fieldLinkNest "PassportOffice$Law" (33 : Nat) "PassportOffice$Clause" "cond" "LPassportOffice$Cond;" "PassportOffice") ∈ lw_tbl := lw_at lw_m3 66 rfl
theorem q628 : (Jvm.Cond.instantiable "PassportOffice$Law" (3 : Nat)) ∈ lw_all := lw_g (lw_at lw_m3 75 rfl) rfl
theorem q630 : (Jvm.Cond.instanceMethod ({ cls := "PassportOffice$Law", name := "<init>", desc := "(I[LPassportOffice$Clause;I)V" } : Jvm.MethodName)) ∈ lw_all := lw_g (lw_at lw_m3 77 rfl) rfl
theorem q631 : (Jvm.Cond.code ({ cls := "PassportOffice$Law", name := "<init>", desc := "(I[LPassportOffice$Clause;I)V" } : Jvm.MethodName) prog_7_method_1_code (4 : Nat) (Option.none : Option Jvm.ClassFile.FieldType)) ∈ lw_all := lw_g (lw_at lw_m3 78 rfl) rfl
theorem q632 : (Jvm.Cond.methodLink "PassportOffice$Law" (3 : Nat) ({ cls := "java/lang/Object", name := "<init>", desc := "()V" } : Jvm.MethodName)) ∈ lw_all := lw_g (lw_at lw_m3 79 rfl) rfl
theorem q633 : (Jvm.Cond.classLink "PassportOffice$Law" (18 : Nat) "PassportOffice$Clause") ∈ lw_all := lw_g (lw_at lw_m3 80 rfl) rfl
theorem q634 : (Jvm.Cond.methodLink "PassportOffice$Law" (24 : Nat) ({ cls := "java/lang/System", name := "arraycopy", desc := "(Ljava/lang/Object;ILjava/lang/Object;II)V" } : Jvm.MethodName)) ∈ lw_all := lw_g (lw_at lw_m3 81 rfl) rfl
theorem q637 : (Jvm.Cond.fieldLink "PassportOffice$Law" (9 : Nat) "PassportOffice$Law" "from" "I") ∈ lw_all := lw_g (lw_at lw_m3 84 rfl) rfl
theorem q639 : (Jvm.Cond.fieldLink "PassportOffice$Law" (15 : Nat) "PassportOffice$Law" "many" "I") ∈ lw_all := lw_g (lw_at lw_m3 86 rfl) rfl
theorem q641 : (Jvm.Cond.fieldLink "PassportOffice$Law" (20 : Nat) "PassportOffice$Law" "clauses" "[LPassportOffice$Clause;") ∈ lw_all := lw_g (lw_at lw_m3 88 rfl) rfl
theorem q642 : (Jvm.Cond.laysFinal "PassportOffice$Law" "PassportOffice$Law" "from" "I") ∈ lw_all := lw_g (lw_at lw_m3 89 rfl) rfl
theorem q643 : (Jvm.Cond.soleField "PassportOffice$Law" "from") ∈ lw_all := lw_g (lw_at lw_m3 90 rfl) rfl
theorem q644 : (Jvm.Cond.laysFinal "PassportOffice$Law" "PassportOffice$Law" "many" "I") ∈ lw_all := lw_g (lw_at lw_m3 91 rfl) rfl
theorem q645 : (Jvm.Cond.soleField "PassportOffice$Law" "many") ∈ lw_all := lw_g (lw_at lw_m3 92 rfl) rfl
theorem q646 : (Jvm.Cond.laysFinal "PassportOffice$Law" "PassportOffice$Law" "clauses" "[LPassportOffice$Clause;") ∈ lw_all := lw_g (lw_at lw_m3 93 rfl) rfl
theorem q647 : (Jvm.Cond.soleField "PassportOffice$Law" "clauses") ∈ lw_all := lw_g (lw_at lw_m3 94 rfl) rfl
theorem q648 : (Jvm.Cond.superclass "PassportOffice$Law" "java/lang/Object") ∈ lw_all := lw_g (lw_at lw_m3 95 rfl) rfl
theorem q825 : (Jvm.Cond.fieldLinkNest "PassportOffice$Law" (46 : Nat) "PassportOffice$Ruling" "needs" "I" "PassportOffice") ∈ lw_tbl := lw_at lw_m4 32 rfl
theorem q827 : (Jvm.Cond.fieldLinkNest "PassportOffice$Law" (52 : Nat) "PassportOffice$Ruling" "fee" "I" "PassportOffice") ∈ lw_tbl := lw_at lw_m4 34 rfl
theorem q830 : (Jvm.Cond.fieldLinkNest "PassportOffice$Law" (74 : Nat) "PassportOffice$Ruling" "years" "I" "PassportOffice") ∈ lw_tbl := lw_at lw_m4 37 rfl
theorem q832 : (Jvm.Cond.fieldLinkNest "PassportOffice$Law" (67 : Nat) "PassportOffice$Ruling" "risk" "I" "PassportOffice") ∈ lw_tbl := lw_at lw_m4 39 rfl
theorem q835 : (Jvm.Cond.fieldLinkNest "PassportOffice$Law" (55 : Nat) "PassportOffice$Ruling" "back" "I" "PassportOffice") ∈ lw_tbl := lw_at lw_m4 42 rfl
theorem q837 : (Jvm.Cond.fieldLinkNest "PassportOffice$Law" (70 : Nat) "PassportOffice$Ruling" "see" "Z" "PassportOffice") ∈ lw_tbl := lw_at lw_m4 44 rfl
theorem q861 : (Jvm.Cond.instanceMethod ({ cls := "PassportOffice$Law", name := "rules", desc := "([I)LPassportOffice$Ruling;" } : Jvm.MethodName)) ∈ lw_all := lw_g (lw_at lw_m4 68 rfl) rfl
theorem q862 : (Jvm.Cond.selects "PassportOffice$Law" ({ cls := "PassportOffice$Law", name := "rules", desc := "([I)LPassportOffice$Ruling;" } : Jvm.MethodName) ({ cls := "PassportOffice$Law", name := "rules", desc := "([I)LPassportOffice$Ruling;" } : Jvm.MethodName)) ∈ lw_all := lw_g (lw_at lw_m4 69 rfl) rfl
theorem q863 : (Jvm.Cond.code ({ cls := "PassportOffice$Law", name := "rules", desc := "([I)LPassportOffice$Ruling;" } : Jvm.MethodName) prog_7_method_2_code (6 : Nat) (Option.some (Jvm.ClassFile.FieldType.object "PassportOffice$Ruling"))) ∈ lw_all := lw_g (lw_at lw_m4 70 rfl) rfl
theorem q864 : (Jvm.Cond.classLink "PassportOffice$Law" (30 : Nat) "PassportOffice$Ruling") ∈ lw_all := lw_g (lw_at lw_m4 71 rfl) rfl
theorem q865 : (Jvm.Cond.methodLinkNest "PassportOffice$Law" (32 : Nat) ({ cls := "PassportOffice$Ruling", name := "<init>", desc := "()V" } : Jvm.MethodName) "PassportOffice") ∈ lw_tbl := lw_at lw_m4 72 rfl
theorem q866 : (Jvm.Cond.methodLink "PassportOffice$Law" (37 : Nat) ({ cls := "PassportOffice$Cond", name := "holds", desc := "([I)Z" } : Jvm.MethodName)) ∈ lw_all := lw_g (lw_at lw_m4 73 rfl) rfl
theorem q880 : (Jvm.Cond.methodLink "PassportOffice$Law" (58 : Nat) ({ cls := "java/lang/Math", name := "min", desc := "(II)I" } : Jvm.MethodName)) ∈ lw_all := lw_g (lw_at lw_m4 87 rfl) rfl
theorem q883 : (Jvm.Cond.methodLink "PassportOffice$Law" (64 : Nat) ({ cls := "java/lang/Math", name := "max", desc := "(II)I" } : Jvm.MethodName)) ∈ lw_all := lw_g (lw_at lw_m4 90 rfl) rfl
theorem q1880 : (Jvm.Cond.castable "PassportOffice$Law" "java/lang/Object") ∈ lw_tbl := lw_at lw_m8 127 rfl
theorem in_X11 : ∀ w ∈ wsX110, w ∈ lw_all := lw_in wsX110 [642, 644, 646] (by decide +kernel) (by decide +kernel)
theorem q95 : (Jvm.Cond.initialized "PassportOffice$Person") ∈ lw_all := lw_g (lw_at lw_m1 22 rfl) rfl
theorem q675 : (Jvm.Cond.instantiable "PassportOffice$Person" (4 : Nat)) ∈ lw_all := lw_g (lw_at lw_m3 122 rfl) rfl
theorem q677 : (Jvm.Cond.instanceMethod ({ cls := "PassportOffice$Person", name := "<init>", desc := "(IZ[I)V" } : Jvm.MethodName)) ∈ lw_all := lw_g (lw_at lw_m3 124 rfl) rfl
theorem q678 : (Jvm.Cond.code ({ cls := "PassportOffice$Person", name := "<init>", desc := "(IZ[I)V" } : Jvm.MethodName) prog_12_method_1_code (4 : Nat) (Option.none : Option Jvm.ClassFile.FieldType)) ∈ lw_all := lw_g (lw_at lw_m3 125 rfl) rfl
theorem q679 : (Jvm.Cond.methodLink "PassportOffice$Person" (3 : Nat) ({ cls := "java/lang/Object", name := "<init>", desc := "()V" } : Jvm.MethodName)) ∈ lw_all := lw_g (lw_at lw_m3 126 rfl) rfl
theorem q680 : (Jvm.Cond.fieldLink "PassportOffice$Person" (9 : Nat) "PassportOffice$Person" "born" "I") ∈ lw_all := lw_g (lw_at lw_m3 127 rfl) rfl
theorem q682 : (Jvm.Cond.fieldLink "PassportOffice$Person" (15 : Nat) "PassportOffice$Person" "abroad" "Z") ∈ lw_all := lw_g (lw_at lw_m3 129 rfl) rfl
theorem q684 : (Jvm.Cond.fieldLink "PassportOffice$Person" (19 : Nat) "PassportOffice$Person" "face" "[I") ∈ lw_all := lw_g (lw_at lw_m3 131 rfl) rfl
theorem q686 : (Jvm.Cond.laysFinal "PassportOffice$Person" "PassportOffice$Person" "born" "I") ∈ lw_all := lw_g (lw_at lw_m3 133 rfl) rfl
theorem q687 : (Jvm.Cond.soleField "PassportOffice$Person" "born") ∈ lw_all := lw_g (lw_at lw_m3 134 rfl) rfl
theorem q688 : (Jvm.Cond.laysFinal "PassportOffice$Person" "PassportOffice$Person" "abroad" "Z") ∈ lw_all := lw_g (lw_at lw_m3 135 rfl) rfl
theorem q689 : (Jvm.Cond.soleField "PassportOffice$Person" "abroad") ∈ lw_all := lw_g (lw_at lw_m3 136 rfl) rfl
theorem q690 : (Jvm.Cond.laysFinal "PassportOffice$Person" "PassportOffice$Person" "face" "[I") ∈ lw_all := lw_g (lw_at lw_m3 137 rfl) rfl
theorem q691 : (Jvm.Cond.soleField "PassportOffice$Person" "face") ∈ lw_all := lw_g (lw_at lw_m3 138 rfl) rfl
theorem q692 : (Jvm.Cond.lays "PassportOffice$Person" "PassportOffice$Person" "name" "[B") ∈ lw_all := lw_g (lw_at lw_m3 139 rfl) rfl
theorem q693 : (Jvm.Cond.soleField "PassportOffice$Person" "name") ∈ lw_all := lw_g (lw_at lw_m3 140 rfl) rfl
theorem q694 : (Jvm.Cond.superclass "PassportOffice$Person" "java/lang/Object") ∈ lw_all := lw_g (lw_at lw_m3 141 rfl) rfl
theorem q785 : (Jvm.Cond.instanceMethod ({ cls := "PassportOffice$Person", name := "far", desc := "(LPassportOffice$Person;)I" } : Jvm.MethodName)) ∈ lw_all := lw_g (lw_at lw_m3 232 rfl) rfl
theorem q786 : (Jvm.Cond.selects "PassportOffice$Person" ({ cls := "PassportOffice$Person", name := "far", desc := "(LPassportOffice$Person;)I" } : Jvm.MethodName) ({ cls := "PassportOffice$Person", name := "far", desc := "(LPassportOffice$Person;)I" } : Jvm.MethodName)) ∈ lw_all := lw_g (lw_at lw_m3 233 rfl) rfl
theorem q787 : (Jvm.Cond.code ({ cls := "PassportOffice$Person", name := "far", desc := "(LPassportOffice$Person;)I" } : Jvm.MethodName) prog_12_method_2_code (4 : Nat) (Option.some Jvm.ClassFile.FieldType.int)) ∈ lw_all := lw_g (lw_at lw_m3 234 rfl) rfl
theorem q1882 : (Jvm.Cond.castable "PassportOffice$Person" "java/lang/Object") ∈ lw_tbl := lw_at lw_m8 129 rfl
theorem in_X12 : ∀ w ∈ wsX120, w ∈ lw_all := lw_in wsX120 [686, 688, 690, 692] (by decide +kernel) (by decide +kernel)
theorem q98 : (Jvm.Cond.initialized "PassportOffice$Ruling") ∈ lw_all := lw_g (lw_at lw_m1 25 rfl) rfl
theorem q820 : (Jvm.Cond.instantiable "PassportOffice$Ruling" (6 : Nat)) ∈ lw_all := lw_g (lw_at lw_m4 27 rfl) rfl
theorem q822 : (Jvm.Cond.instanceMethod ({ cls := "PassportOffice$Ruling", name := "<init>", desc := "()V" } : Jvm.MethodName)) ∈ lw_all := lw_g (lw_at lw_m4 29 rfl) rfl
theorem q823 : (Jvm.Cond.code ({ cls := "PassportOffice$Ruling", name := "<init>", desc := "()V" } : Jvm.MethodName) prog_14_method_1_code (1 : Nat) (Option.none : Option Jvm.ClassFile.FieldType)) ∈ lw_all := lw_g (lw_at lw_m4 30 rfl) rfl
theorem q824 : (Jvm.Cond.methodLink "PassportOffice$Ruling" (3 : Nat) ({ cls := "java/lang/Object", name := "<init>", desc := "()V" } : Jvm.MethodName)) ∈ lw_all := lw_g (lw_at lw_m4 31 rfl) rfl
theorem q829 : (Jvm.Cond.fieldLink "PassportOffice$Ruling" (9 : Nat) "PassportOffice$Ruling" "years" "I") ∈ lw_all := lw_g (lw_at lw_m4 36 rfl) rfl
theorem q834 : (Jvm.Cond.fieldLink "PassportOffice$Ruling" (15 : Nat) "PassportOffice$Ruling" "back" "I") ∈ lw_all := lw_g (lw_at lw_m4 41 rfl) rfl
theorem q839 : (Jvm.Cond.lays "PassportOffice$Ruling" "PassportOffice$Ruling" "needs" "I") ∈ lw_all := lw_g (lw_at lw_m4 46 rfl) rfl
theorem q840 : (Jvm.Cond.soleField "PassportOffice$Ruling" "needs") ∈ lw_all := lw_g (lw_at lw_m4 47 rfl) rfl
theorem q841 : (Jvm.Cond.lays "PassportOffice$Ruling" "PassportOffice$Ruling" "fee" "I") ∈ lw_all := lw_g (lw_at lw_m4 48 rfl) rfl
theorem q842 : (Jvm.Cond.soleField "PassportOffice$Ruling" "fee") ∈ lw_all := lw_g (lw_at lw_m4 49 rfl) rfl
theorem q843 : (Jvm.Cond.lays "PassportOffice$Ruling" "PassportOffice$Ruling" "years" "I") ∈ lw_all := lw_g (lw_at lw_m4 50 rfl) rfl
theorem q844 : (Jvm.Cond.soleField "PassportOffice$Ruling" "years") ∈ lw_all := lw_g (lw_at lw_m4 51 rfl) rfl
theorem q845 : (Jvm.Cond.lays "PassportOffice$Ruling" "PassportOffice$Ruling" "risk" "I") ∈ lw_all := lw_g (lw_at lw_m4 52 rfl) rfl
theorem q846 : (Jvm.Cond.soleField "PassportOffice$Ruling" "risk") ∈ lw_all := lw_g (lw_at lw_m4 53 rfl) rfl
theorem q847 : (Jvm.Cond.lays "PassportOffice$Ruling" "PassportOffice$Ruling" "back" "I") ∈ lw_all := lw_g (lw_at lw_m4 54 rfl) rfl
theorem q848 : (Jvm.Cond.soleField "PassportOffice$Ruling" "back") ∈ lw_all := lw_g (lw_at lw_m4 55 rfl) rfl
theorem q849 : (Jvm.Cond.lays "PassportOffice$Ruling" "PassportOffice$Ruling" "see" "Z") ∈ lw_all := lw_g (lw_at lw_m4 56 rfl) rfl
theorem q850 : (Jvm.Cond.soleField "PassportOffice$Ruling" "see") ∈ lw_all := lw_g (lw_at lw_m4 57 rfl) rfl
theorem q851 : (Jvm.Cond.superclass "PassportOffice$Ruling" "java/lang/Object") ∈ lw_all := lw_g (lw_at lw_m4 58 rfl) rfl
theorem q1885 : (Jvm.Cond.castable "PassportOffice$Ruling" "java/lang/Object") ∈ lw_tbl := lw_at lw_m8 132 rfl
theorem in_X13 : ∀ w ∈ wsX130, w ∈ lw_all := lw_in wsX130 [839, 841, 843, 845, 847, 849] (by decide +kernel) (by decide +kernel)
theorem q101 : (Jvm.Cond.initialized "PassportOffice$Asking") ∈ lw_all := lw_g (lw_at lw_m1 28 rfl) rfl
theorem q911 : (Jvm.Cond.instantiable "PassportOffice$Asking" (7 : Nat)) ∈ lw_all := lw_g (lw_at lw_m4 118 rfl) rfl
theorem q913 : (Jvm.Cond.instanceMethod ({ cls := "PassportOffice$Asking", name := "<init>", desc := "(IIIIIZLPassportOffice$Ruling;)V" } : Jvm.MethodName)) ∈ lw_all := lw_g (lw_at lw_m4 120 rfl) rfl
theorem q914 : (Jvm.Cond.code ({ cls := "PassportOffice$Asking", name := "<init>", desc := "(IIIIIZLPassportOffice$Ruling;)V" } : Jvm.MethodName) prog_2_method_1_code (8 : Nat) (Option.none : Option Jvm.ClassFile.FieldType)) ∈ lw_all := lw_g (lw_at lw_m4 121 rfl) rfl
theorem q915 : (Jvm.Cond.methodLink "PassportOffice$Asking" (1 : Nat) ({ cls := "java/lang/Object", name := "<init>", desc := "()V" } : Jvm.MethodName)) ∈ lw_all := lw_g (lw_at lw_m4 122 rfl) rfl
theorem q916 : (Jvm.Cond.fieldLink "PassportOffice$Asking" (7 : Nat) "PassportOffice$Asking" "number" "I") ∈ lw_all := lw_g (lw_at lw_m4 123 rfl) rfl
theorem q918 : (Jvm.Cond.fieldLink "PassportOffice$Asking" (13 : Nat) "PassportOffice$Asking" "person" "I") ∈ lw_all := lw_g (lw_at lw_m4 125 rfl) rfl
theorem q920 : (Jvm.Cond.fieldLink "PassportOffice$Asking" (16 : Nat) "PassportOffice$Asking" "kind" "I") ∈ lw_all := lw_g (lw_at lw_m4 127 rfl) rfl
theorem q922 : (Jvm.Cond.fieldLink "PassportOffice$Asking" (19 : Nat) "PassportOffice$Asking" "came" "I") ∈ lw_all := lw_g (lw_at lw_m4 129 rfl) rfl
theorem q924 : (Jvm.Cond.fieldLink "PassportOffice$Asking" (22 : Nat) "PassportOffice$Asking" "wanted" "I") ∈ lw_all := lw_g (lw_at lw_m4 131 rfl) rfl
theorem q926 : (Jvm.Cond.fieldLink "PassportOffice$Asking" (25 : Nat) "PassportOffice$Asking" "urgent" "Z") ∈ lw_all := lw_g (lw_at lw_m4 133 rfl) rfl
theorem q928 : (Jvm.Cond.fieldLink "PassportOffice$Asking" (29 : Nat) "PassportOffice$Asking" "ruling" "LPassportOffice$Ruling;") ∈ lw_all := lw_g (lw_at lw_m4 135 rfl) rfl
theorem q930 : (Jvm.Cond.laysFinal "PassportOffice$Asking" "PassportOffice$Asking" "number" "I") ∈ lw_all := lw_g (lw_at lw_m4 137 rfl) rfl
theorem q931 : (Jvm.Cond.soleField "PassportOffice$Asking" "number") ∈ lw_all := lw_g (lw_at lw_m4 138 rfl) rfl
theorem q932 : (Jvm.Cond.laysFinal "PassportOffice$Asking" "PassportOffice$Asking" "person" "I") ∈ lw_all := lw_g (lw_at lw_m4 139 rfl) rfl
theorem q933 : (Jvm.Cond.soleField "PassportOffice$Asking" "person") ∈ lw_all := lw_g (lw_at lw_m4 140 rfl) rfl
theorem q934 : (Jvm.Cond.laysFinal "PassportOffice$Asking" "PassportOffice$Asking" "kind" "I") ∈ lw_all := lw_g (lw_at lw_m4 141 rfl) rfl
theorem q935 : (Jvm.Cond.soleField "PassportOffice$Asking" "kind") ∈ lw_all := lw_g (lw_at lw_m4 142 rfl) rfl
theorem q936 : (Jvm.Cond.laysFinal "PassportOffice$Asking" "PassportOffice$Asking" "came" "I") ∈ lw_all := lw_g (lw_at lw_m4 143 rfl) rfl
theorem q937 : (Jvm.Cond.soleField "PassportOffice$Asking" "came") ∈ lw_all := lw_g (lw_at lw_m4 144 rfl) rfl
theorem q938 : (Jvm.Cond.laysFinal "PassportOffice$Asking" "PassportOffice$Asking" "wanted" "I") ∈ lw_all := lw_g (lw_at lw_m4 145 rfl) rfl
theorem q939 : (Jvm.Cond.soleField "PassportOffice$Asking" "wanted") ∈ lw_all := lw_g (lw_at lw_m4 146 rfl) rfl
theorem q940 : (Jvm.Cond.laysFinal "PassportOffice$Asking" "PassportOffice$Asking" "urgent" "Z") ∈ lw_all := lw_g (lw_at lw_m4 147 rfl) rfl
theorem q941 : (Jvm.Cond.soleField "PassportOffice$Asking" "urgent") ∈ lw_all := lw_g (lw_at lw_m4 148 rfl) rfl
theorem q942 : (Jvm.Cond.laysFinal "PassportOffice$Asking" "PassportOffice$Asking" "ruling" "LPassportOffice$Ruling;") ∈ lw_all := lw_g (lw_at lw_m4 149 rfl) rfl
theorem q943 : (Jvm.Cond.soleField "PassportOffice$Asking" "ruling") ∈ lw_all := lw_g (lw_at lw_m4 150 rfl) rfl
theorem q944 : (Jvm.Cond.superclass "PassportOffice$Asking" "java/lang/Object") ∈ lw_all := lw_g (lw_at lw_m4 151 rfl) rfl
theorem q1887 : (Jvm.Cond.castable "PassportOffice$Asking" "java/lang/Object") ∈ lw_tbl := lw_at lw_m8 134 rfl
theorem in_X14 : ∀ w ∈ wsX140, w ∈ lw_all := lw_in wsX140 [930, 932, 934, 936, 938, 940, 942] (by decide +kernel) (by decide +kernel)
theorem q102 : (Jvm.Cond.initialized "PassportOffice$Move") ∈ lw_all := lw_g (lw_at lw_m1 29 rfl) rfl
theorem q946 : (Jvm.Cond.instantiable "PassportOffice$Move" (8 : Nat)) ∈ lw_all := lw_g (lw_at lw_m4 153 rfl) rfl
theorem q948 : (Jvm.Cond.instanceMethod ({ cls := "PassportOffice$Move", name := "<init>", desc := "()V" } : Jvm.MethodName)) ∈ lw_all := lw_g (lw_at lw_m4 155 rfl) rfl
theorem q949 : (Jvm.Cond.code ({ cls := "PassportOffice$Move", name := "<init>", desc := "()V" } : Jvm.MethodName) prog_9_method_1_code (1 : Nat) (Option.none : Option Jvm.ClassFile.FieldType)) ∈ lw_all := lw_g (lw_at lw_m4 156 rfl) rfl
theorem q950 : (Jvm.Cond.methodLink "PassportOffice$Move" (3 : Nat) ({ cls := "java/lang/Object", name := "<init>", desc := "()V" } : Jvm.MethodName)) ∈ lw_all := lw_g (lw_at lw_m4 157 rfl) rfl
theorem q951 : (Jvm.Cond.fieldLink "PassportOffice$Move" (24 : Nat) "PassportOffice$Move" "state" "I") ∈ lw_all := lw_g (lw_at lw_m4 158 rfl) rfl
theorem q953 : (Jvm.Cond.fieldLink "PassportOffice$Move" (27 : Nat) "PassportOffice$Move" "items" "I") ∈ lw_all := lw_g (lw_at lw_m4 160 rfl) rfl
theorem q955 : (Jvm.Cond.fieldLink "PassportOffice$Move" (9 : Nat) "PassportOffice$Move" "booklet" "I") ∈ lw_all := lw_g (lw_at lw_m4 162 rfl) rfl
theorem q957 : (Jvm.Cond.fieldLink "PassportOffice$Move" (15 : Nat) "PassportOffice$Move" "read" "I") ∈ lw_all := lw_g (lw_at lw_m4 164 rfl) rfl
theorem q959 : (Jvm.Cond.fieldLink "PassportOffice$Move" (18 : Nat) "PassportOffice$Move" "got" "I") ∈ lw_all := lw_g (lw_at lw_m4 166 rfl) rfl
theorem q961 : (Jvm.Cond.fieldLink "PassportOffice$Move" (21 : Nat) "PassportOffice$Move" "comes" "I") ∈ lw_all := lw_g (lw_at lw_m4 168 rfl) rfl
theorem q963 : (Jvm.Cond.fieldLink "PassportOffice$Move" (30 : Nat) "PassportOffice$Move" "backs" "I") ∈ lw_all := lw_g (lw_at lw_m4 170 rfl) rfl
theorem q965 : (Jvm.Cond.fieldLink "PassportOffice$Move" (33 : Nat) "PassportOffice$Move" "paidBack" "Z") ∈ lw_all := lw_g (lw_at lw_m4 172 rfl) rfl
theorem q967 : (Jvm.Cond.lays "PassportOffice$Move" "PassportOffice$Move" "state" "I") ∈ lw_all := lw_g (lw_at lw_m4 174 rfl) rfl
theorem q968 : (Jvm.Cond.soleField "PassportOffice$Move" "state") ∈ lw_all := lw_g (lw_at lw_m4 175 rfl) rfl
theorem q969 : (Jvm.Cond.lays "PassportOffice$Move" "PassportOffice$Move" "items" "I") ∈ lw_all := lw_g (lw_at lw_m4 176 rfl) rfl
theorem q970 : (Jvm.Cond.soleField "PassportOffice$Move" "items") ∈ lw_all := lw_g (lw_at lw_m4 177 rfl) rfl
theorem q971 : (Jvm.Cond.lays "PassportOffice$Move" "PassportOffice$Move" "booklet" "I") ∈ lw_all := lw_g (lw_at lw_m4 178 rfl) rfl
theorem q972 : (Jvm.Cond.soleField "PassportOffice$Move" "booklet") ∈ lw_all := lw_g (lw_at lw_m4 179 rfl) rfl
theorem q973 : (Jvm.Cond.lays "PassportOffice$Move" "PassportOffice$Move" "read" "I") ∈ lw_all := lw_g (lw_at lw_m4 180 rfl) rfl
theorem q974 : (Jvm.Cond.soleField "PassportOffice$Move" "read") ∈ lw_all := lw_g (lw_at lw_m4 181 rfl) rfl
theorem q975 : (Jvm.Cond.lays "PassportOffice$Move" "PassportOffice$Move" "got" "I") ∈ lw_all := lw_g (lw_at lw_m4 182 rfl) rfl
theorem q976 : (Jvm.Cond.soleField "PassportOffice$Move" "got") ∈ lw_all := lw_g (lw_at lw_m4 183 rfl) rfl
theorem q977 : (Jvm.Cond.lays "PassportOffice$Move" "PassportOffice$Move" "comes" "I") ∈ lw_all := lw_g (lw_at lw_m4 184 rfl) rfl
theorem q978 : (Jvm.Cond.soleField "PassportOffice$Move" "comes") ∈ lw_all := lw_g (lw_at lw_m4 185 rfl) rfl
theorem q979 : (Jvm.Cond.lays "PassportOffice$Move" "PassportOffice$Move" "backs" "I") ∈ lw_all := lw_g (lw_at lw_m4 186 rfl) rfl
theorem q980 : (Jvm.Cond.soleField "PassportOffice$Move" "backs") ∈ lw_all := lw_g (lw_at lw_m4 187 rfl) rfl
theorem q981 : (Jvm.Cond.lays "PassportOffice$Move" "PassportOffice$Move" "paidBack" "Z") ∈ lw_all := lw_g (lw_at lw_m4 188 rfl) rfl
theorem q982 : (Jvm.Cond.soleField "PassportOffice$Move" "paidBack") ∈ lw_all := lw_g (lw_at lw_m4 189 rfl) rfl
theorem q983 : (Jvm.Cond.superclass "PassportOffice$Move" "java/lang/Object") ∈ lw_all := lw_g (lw_at lw_m4 190 rfl) rfl
theorem q1241 : (Jvm.Cond.instanceMethod ({ cls := "PassportOffice$Move", name := "be", desc := "(LPassportOffice$Move;)V" } : Jvm.MethodName)) ∈ lw_all := lw_g (lw_at lw_m5 208 rfl) rfl
theorem q1242 : (Jvm.Cond.selects "PassportOffice$Move" ({ cls := "PassportOffice$Move", name := "be", desc := "(LPassportOffice$Move;)V" } : Jvm.MethodName) ({ cls := "PassportOffice$Move", name := "be", desc := "(LPassportOffice$Move;)V" } : Jvm.MethodName)) ∈ lw_all := lw_g (lw_at lw_m5 209 rfl) rfl
theorem q1243 : (Jvm.Cond.code ({ cls := "PassportOffice$Move", name := "be", desc := "(LPassportOffice$Move;)V" } : Jvm.MethodName) prog_9_method_2_code (2 : Nat) (Option.none : Option Jvm.ClassFile.FieldType)) ∈ lw_all := lw_g (lw_at lw_m5 210 rfl) rfl
theorem q1888 : (Jvm.Cond.castable "PassportOffice$Move" "java/lang/Object") ∈ lw_tbl := lw_at lw_m8 135 rfl
theorem in_X15 : ∀ w ∈ wsX150, w ∈ lw_all := lw_in wsX150 [967, 969, 971, 973, 975, 977, 979, 981] (by decide +kernel) (by decide +kernel)
theorem q104 : (Jvm.Cond.initialized "PassportOffice$Loan") ∈ lw_all := lw_g (lw_at lw_m1 31 rfl) rfl
theorem q1034 : (Jvm.Cond.instantiable "PassportOffice$Loan" (5 : Nat)) ∈ lw_all := lw_g (lw_at lw_m5 1 rfl) rfl
theorem q1036 : (Jvm.Cond.instanceMethod ({ cls := "PassportOffice$Loan", name := "<init>", desc := "(IIIII)V" } : Jvm.MethodName)) ∈ lw_all := lw_g (lw_at lw_m5 3 rfl) rfl
theorem q1037 : (Jvm.Cond.code ({ cls := "PassportOffice$Loan", name := "<init>", desc := "(IIIII)V" } : Jvm.MethodName) prog_8_method_1_code (6 : Nat) (Option.none : Option Jvm.ClassFile.FieldType)) ∈ lw_all := lw_g (lw_at lw_m5 4 rfl) rfl
theorem q1038 : (Jvm.Cond.methodLink "PassportOffice$Loan" (1 : Nat) ({ cls := "java/lang/Object", name := "<init>", desc := "()V" } : Jvm.MethodName)) ∈ lw_all := lw_g (lw_at lw_m5 5 rfl) rfl
theorem q1039 : (Jvm.Cond.fieldLink "PassportOffice$Loan" (7 : Nat) "PassportOffice$Loan" "desk" "I") ∈ lw_all := lw_g (lw_at lw_m5 6 rfl) rfl
theorem q1041 : (Jvm.Cond.fieldLink "PassportOffice$Loan" (13 : Nat) "PassportOffice$Loan" "hands" "I") ∈ lw_all := lw_g (lw_at lw_m5 8 rfl) rfl
theorem q1042 : (Jvm.Cond.fieldLink "PassportOffice$Loan" (16 : Nat) "PassportOffice$Loan" "from" "I") ∈ lw_all := lw_g (lw_at lw_m5 9 rfl) rfl
theorem q1043 : (Jvm.Cond.fieldLink "PassportOffice$Loan" (19 : Nat) "PassportOffice$Loan" "to" "I") ∈ lw_all := lw_g (lw_at lw_m5 10 rfl) rfl
theorem q1044 : (Jvm.Cond.fieldLink "PassportOffice$Loan" (22 : Nat) "PassportOffice$Loan" "training" "I") ∈ lw_all := lw_g (lw_at lw_m5 11 rfl) rfl
theorem q1045 : (Jvm.Cond.laysFinal "PassportOffice$Loan" "PassportOffice$Loan" "desk" "I") ∈ lw_all := lw_g (lw_at lw_m5 12 rfl) rfl
theorem q1046 : (Jvm.Cond.soleField "PassportOffice$Loan" "desk") ∈ lw_all := lw_g (lw_at lw_m5 13 rfl) rfl
theorem q1047 : (Jvm.Cond.laysFinal "PassportOffice$Loan" "PassportOffice$Loan" "hands" "I") ∈ lw_all := lw_g (lw_at lw_m5 14 rfl) rfl
theorem q1048 : (Jvm.Cond.soleField "PassportOffice$Loan" "hands") ∈ lw_all := lw_g (lw_at lw_m5 15 rfl) rfl
theorem q1049 : (Jvm.Cond.laysFinal "PassportOffice$Loan" "PassportOffice$Loan" "from" "I") ∈ lw_all := lw_g (lw_at lw_m5 16 rfl) rfl
theorem q1050 : (Jvm.Cond.soleField "PassportOffice$Loan" "from") ∈ lw_all := lw_g (lw_at lw_m5 17 rfl) rfl
theorem q1051 : (Jvm.Cond.laysFinal "PassportOffice$Loan" "PassportOffice$Loan" "to" "I") ∈ lw_all := lw_g (lw_at lw_m5 18 rfl) rfl
theorem q1052 : (Jvm.Cond.soleField "PassportOffice$Loan" "to") ∈ lw_all := lw_g (lw_at lw_m5 19 rfl) rfl
theorem q1053 : (Jvm.Cond.laysFinal "PassportOffice$Loan" "PassportOffice$Loan" "training" "I") ∈ lw_all := lw_g (lw_at lw_m5 20 rfl) rfl
theorem q1054 : (Jvm.Cond.soleField "PassportOffice$Loan" "training") ∈ lw_all := lw_g (lw_at lw_m5 21 rfl) rfl
theorem q1055 : (Jvm.Cond.superclass "PassportOffice$Loan" "java/lang/Object") ∈ lw_all := lw_g (lw_at lw_m5 22 rfl) rfl
theorem q1068 : (Jvm.Cond.instanceMethod ({ cls := "PassportOffice$Loan", name := "units", desc := "(I)I" } : Jvm.MethodName)) ∈ lw_all := lw_g (lw_at lw_m5 35 rfl) rfl
theorem q1069 : (Jvm.Cond.selects "PassportOffice$Loan" ({ cls := "PassportOffice$Loan", name := "units", desc := "(I)I" } : Jvm.MethodName) ({ cls := "PassportOffice$Loan", name := "units", desc := "(I)I" } : Jvm.MethodName)) ∈ lw_all := lw_g (lw_at lw_m5 36 rfl) rfl
theorem q1070 : (Jvm.Cond.code ({ cls := "PassportOffice$Loan", name := "units", desc := "(I)I" } : Jvm.MethodName) prog_8_method_2_code (2 : Nat) (Option.some Jvm.ClassFile.FieldType.int)) ∈ lw_all := lw_g (lw_at lw_m5 37 rfl) rfl
theorem q1890 : (Jvm.Cond.castable "PassportOffice$Loan" "java/lang/Object") ∈ lw_tbl := lw_at lw_m8 137 rfl
theorem in_X16 : ∀ w ∈ wsX160, w ∈ lw_all := lw_in wsX160 [1045, 1047, 1049, 1051, 1053] (by decide +kernel) (by decide +kernel)
theorem q105 : (Jvm.Cond.initialized "PassportOffice$Booklet") ∈ lw_all := lw_g (lw_at lw_m1 32 rfl) rfl
theorem q857 : (Jvm.Cond.instanceMethod ({ cls := "PassportOffice$Booklet", name := "isValid", desc := "(I)Z" } : Jvm.MethodName)) ∈ lw_all := lw_g (lw_at lw_m4 64 rfl) rfl
theorem q858 : (Jvm.Cond.selects "PassportOffice$Booklet" ({ cls := "PassportOffice$Booklet", name := "isValid", desc := "(I)Z" } : Jvm.MethodName) ({ cls := "PassportOffice$Booklet", name := "isValid", desc := "(I)Z" } : Jvm.MethodName)) ∈ lw_all := lw_g (lw_at lw_m4 65 rfl) rfl
theorem q859 : (Jvm.Cond.code ({ cls := "PassportOffice$Booklet", name := "isValid", desc := "(I)Z" } : Jvm.MethodName) prog_3_method_2_code (2 : Nat) (Option.some Jvm.ClassFile.FieldType.boolean)) ∈ lw_all := lw_g (lw_at lw_m4 66 rfl) rfl
theorem q1149 : (Jvm.Cond.instantiable "PassportOffice$Booklet" (4 : Nat)) ∈ lw_all := lw_g (lw_at lw_m5 116 rfl) rfl
theorem q1151 : (Jvm.Cond.instanceMethod ({ cls := "PassportOffice$Booklet", name := "<init>", desc := "(IIII)V" } : Jvm.MethodName)) ∈ lw_all := lw_g (lw_at lw_m5 118 rfl) rfl
theorem q1152 : (Jvm.Cond.code ({ cls := "PassportOffice$Booklet", name := "<init>", desc := "(IIII)V" } : Jvm.MethodName) prog_3_method_1_code (5 : Nat) (Option.none : Option Jvm.ClassFile.FieldType)) ∈ lw_all := lw_g (lw_at lw_m5 119 rfl) rfl
theorem q1153 : (Jvm.Cond.methodLink "PassportOffice$Booklet" (1 : Nat) ({ cls := "java/lang/Object", name := "<init>", desc := "()V" } : Jvm.MethodName)) ∈ lw_all := lw_g (lw_at lw_m5 120 rfl) rfl
theorem q1154 : (Jvm.Cond.fieldLink "PassportOffice$Booklet" (7 : Nat) "PassportOffice$Booklet" "person" "I") ∈ lw_all := lw_g (lw_at lw_m5 121 rfl) rfl
theorem q1156 : (Jvm.Cond.fieldLink "PassportOffice$Booklet" (13 : Nat) "PassportOffice$Booklet" "first" "I") ∈ lw_all := lw_g (lw_at lw_m5 123 rfl) rfl
theorem q1158 : (Jvm.Cond.fieldLink "PassportOffice$Booklet" (19 : Nat) "PassportOffice$Booklet" "asking" "I") ∈ lw_all := lw_g (lw_at lw_m5 125 rfl) rfl
theorem q1160 : (Jvm.Cond.fieldLink "PassportOffice$Booklet" (16 : Nat) "PassportOffice$Booklet" "end" "I") ∈ lw_all := lw_g (lw_at lw_m5 127 rfl) rfl
theorem q1162 : (Jvm.Cond.laysFinal "PassportOffice$Booklet" "PassportOffice$Booklet" "person" "I") ∈ lw_all := lw_g (lw_at lw_m5 129 rfl) rfl
theorem q1163 : (Jvm.Cond.soleField "PassportOffice$Booklet" "person") ∈ lw_all := lw_g (lw_at lw_m5 130 rfl) rfl
theorem q1164 : (Jvm.Cond.laysFinal "PassportOffice$Booklet" "PassportOffice$Booklet" "first" "I") ∈ lw_all := lw_g (lw_at lw_m5 131 rfl) rfl
theorem q1165 : (Jvm.Cond.soleField "PassportOffice$Booklet" "first") ∈ lw_all := lw_g (lw_at lw_m5 132 rfl) rfl
theorem q1166 : (Jvm.Cond.laysFinal "PassportOffice$Booklet" "PassportOffice$Booklet" "asking" "I") ∈ lw_all := lw_g (lw_at lw_m5 133 rfl) rfl
theorem q1167 : (Jvm.Cond.soleField "PassportOffice$Booklet" "asking") ∈ lw_all := lw_g (lw_at lw_m5 134 rfl) rfl
theorem q1168 : (Jvm.Cond.lays "PassportOffice$Booklet" "PassportOffice$Booklet" "end" "I") ∈ lw_all := lw_g (lw_at lw_m5 135 rfl) rfl
theorem q1169 : (Jvm.Cond.soleField "PassportOffice$Booklet" "end") ∈ lw_all := lw_g (lw_at lw_m5 136 rfl) rfl
theorem q1170 : (Jvm.Cond.superclass "PassportOffice$Booklet" "java/lang/Object") ∈ lw_all := lw_g (lw_at lw_m5 137 rfl) rfl
theorem q1891 : (Jvm.Cond.castable "PassportOffice$Booklet" "java/lang/Object") ∈ lw_tbl := lw_at lw_m8 138 rfl
theorem in_X17 : ∀ w ∈ wsX170, w ∈ lw_all := lw_in wsX170 [1162, 1164, 1166, 1168] (by decide +kernel) (by decide +kernel)
theorem q75 : (Jvm.Cond.initialized "PassportOffice$Reader") ∈ lw_all := lw_g (lw_at lw_m1 2 rfl) rfl
theorem q115 : (Jvm.Cond.instantiable "PassportOffice$Reader" (12 : Nat)) ∈ lw_all := lw_g (lw_at lw_m1 42 rfl) rfl
theorem q117 : (Jvm.Cond.instanceMethod ({ cls := "PassportOffice$Reader", name := "<init>", desc := "()V" } : Jvm.MethodName)) ∈ lw_all := lw_g (lw_at lw_m1 44 rfl) rfl
theorem q118 : (Jvm.Cond.code ({ cls := "PassportOffice$Reader", name := "<init>", desc := "()V" } : Jvm.MethodName) prog_13_method_1_code (1 : Nat) (Option.none : Option Jvm.ClassFile.FieldType)) ∈ lw_all := lw_g (lw_at lw_m1 45 rfl) rfl
theorem q119 : (Jvm.Cond.methodLink "PassportOffice$Reader" (3 : Nat) ({ cls := "java/lang/Object", name := "<init>", desc := "()V" } : Jvm.MethodName)) ∈ lw_all := lw_g (lw_at lw_m1 46 rfl) rfl
theorem q120 : (Jvm.Cond.classLink "PassportOffice$Reader" (15 : Nat) "java/lang/String") ∈ lw_all := lw_g (lw_at lw_m1 47 rfl) rfl
theorem q122 : (Jvm.Cond.stringRef "PassportOffice$Reader" (17 : Nat) "need") ∈ lw_tbl := lw_at lw_m1 49 rfl
theorem q123 : (Jvm.Cond.stringRef "PassportOffice$Reader" (19 : Nat) "fee") ∈ lw_tbl := lw_at lw_m1 50 rfl
theorem q124 : (Jvm.Cond.stringRef "PassportOffice$Reader" (21 : Nat) "back") ∈ lw_tbl := lw_at lw_m1 51 rfl
theorem q125 : (Jvm.Cond.stringRef "PassportOffice$Reader" (23 : Nat) "years") ∈ lw_tbl := lw_at lw_m1 52 rfl
theorem q126 : (Jvm.Cond.stringRef "PassportOffice$Reader" (25 : Nat) "risk") ∈ lw_tbl := lw_at lw_m1 53 rfl
theorem q127 : (Jvm.Cond.stringRef "PassportOffice$Reader" (27 : Nat) "see") ∈ lw_tbl := lw_at lw_m1 54 rfl
theorem q128 : (Jvm.Cond.stringRef "PassportOffice$Reader" (33 : Nat) "deed") ∈ lw_tbl := lw_at lw_m1 55 rfl
theorem q129 : (Jvm.Cond.stringRef "PassportOffice$Reader" (35 : Nat) "photo") ∈ lw_tbl := lw_at lw_m1 56 rfl
theorem q130 : (Jvm.Cond.stringRef "PassportOffice$Reader" (37 : Nat) "consent") ∈ lw_tbl := lw_at lw_m1 57 rfl
theorem q131 : (Jvm.Cond.stringRef "PassportOffice$Reader" (39 : Nat) "both") ∈ lw_tbl := lw_at lw_m1 58 rfl
theorem q132 : (Jvm.Cond.stringRef "PassportOffice$Reader" (41 : Nat) "oldbook") ∈ lw_tbl := lw_at lw_m1 59 rfl
theorem q133 : (Jvm.Cond.stringRef "PassportOffice$Reader" (43 : Nat) "report") ∈ lw_tbl := lw_at lw_m1 60 rfl
theorem q134 : (Jvm.Cond.stringRef "PassportOffice$Reader" (45 : Nat) "ticket") ∈ lw_tbl := lw_at lw_m1 61 rfl
theorem q135 : (Jvm.Cond.stringRef "PassportOffice$Reader" (47 : Nat) "change") ∈ lw_tbl := lw_at lw_m1 62 rfl
theorem q136 : (Jvm.Cond.stringRef "PassportOffice$Reader" (52 : Nat) "age") ∈ lw_tbl := lw_at lw_m1 63 rfl
theorem q137 : (Jvm.Cond.stringRef "PassportOffice$Reader" (54 : Nat) "wanted") ∈ lw_tbl := lw_at lw_m1 64 rfl
theorem q138 : (Jvm.Cond.stringRef "PassportOffice$Reader" (56 : Nat) "valid") ∈ lw_tbl := lw_at lw_m1 65 rfl
theorem q139 : (Jvm.Cond.stringRef "PassportOffice$Reader" (58 : Nat) "abroad") ∈ lw_tbl := lw_at lw_m1 66 rfl
theorem q140 : (Jvm.Cond.stringRef "PassportOffice$Reader" (60 : Nat) "first") ∈ lw_tbl := lw_at lw_m1 67 rfl
theorem q141 : (Jvm.Cond.stringRef "PassportOffice$Reader" (62 : Nat) "renew") ∈ lw_tbl := lw_at lw_m1 68 rfl
theorem q142 : (Jvm.Cond.stringRef "PassportOffice$Reader" (64 : Nat) "lost") ∈ lw_tbl := lw_at lw_m1 69 rfl
theorem q143 : (Jvm.Cond.stringRef "PassportOffice$Reader" (66 : Nat) "second") ∈ lw_tbl := lw_at lw_m1 70 rfl
theorem q144 : (Jvm.Cond.stringRef "PassportOffice$Reader" (68 : Nat) "urgent") ∈ lw_tbl := lw_at lw_m1 71 rfl
theorem q145 : (Jvm.Cond.classLink "PassportOffice$Reader" (73 : Nat) "PassportOffice$Clause") ∈ lw_all := lw_g (lw_at lw_m1 72 rfl) rfl
theorem q147 : (Jvm.Cond.classLink "PassportOffice$Reader" (82 : Nat) "PassportOffice$Wrong") ∈ lw_all := lw_g (lw_at lw_m1 74 rfl) rfl
theorem q192 : (Jvm.Cond.methodLink "PassportOffice$Reader" (84 : Nat) ({ cls := "PassportOffice$Wrong", name := "<init>", desc := "()V" } : Jvm.MethodName)) ∈ lw_all := lw_g (lw_at lw_m1 119 rfl) rfl
theorem q204 : (Jvm.Cond.fieldLinkNest "PassportOffice$Reader" (89 : Nat) "PassportOffice$Wrong" "place" "I" "PassportOffice") ∈ lw_tbl := lw_at lw_m1 131 rfl
theorem q222 : (Jvm.Cond.fieldLink "PassportOffice$Reader" (9 : Nat) "PassportOffice$Reader" "tape" "[B") ∈ lw_all := lw_g (lw_at lw_m1 149 rfl) rfl
theorem q224 : (Jvm.Cond.fieldLink "PassportOffice$Reader" (29 : Nat) "PassportOffice$Reader" "words" "[Ljava/lang/String;") ∈ lw_all := lw_g (lw_at lw_m1 151 rfl) rfl
theorem q225 : (Jvm.Cond.fieldLink "PassportOffice$Reader" (49 : Nat) "PassportOffice$Reader" "items" "[Ljava/lang/String;") ∈ lw_all := lw_g (lw_at lw_m1 152 rfl) rfl
theorem q226 : (Jvm.Cond.fieldLink "PassportOffice$Reader" (70 : Nat) "PassportOffice$Reader" "facts" "[Ljava/lang/String;") ∈ lw_all := lw_g (lw_at lw_m1 153 rfl) rfl
theorem q227 : (Jvm.Cond.fieldLink "PassportOffice$Reader" (75 : Nat) "PassportOffice$Reader" "row" "[LPassportOffice$Clause;") ∈ lw_all := lw_g (lw_at lw_m1 154 rfl) rfl
theorem q228 : (Jvm.Cond.fieldLink "PassportOffice$Reader" (79 : Nat) "PassportOffice$Reader" "turned" "[B") ∈ lw_all := lw_g (lw_at lw_m1 155 rfl) rfl
theorem q230 : (Jvm.Cond.fieldLink "PassportOffice$Reader" (85 : Nat) "PassportOffice$Reader" "wrong" "LPassportOffice$Wrong;") ∈ lw_all := lw_g (lw_at lw_m1 157 rfl) rfl
theorem q232 : (Jvm.Cond.fieldLink "PassportOffice$Reader" (96 : Nat) "PassportOffice$Reader" "end" "I") ∈ lw_all := lw_g (lw_at lw_m1 159 rfl) rfl
theorem q233 : (Jvm.Cond.fieldLink "PassportOffice$Reader" (93 : Nat) "PassportOffice$Reader" "at" "I") ∈ lw_all := lw_g (lw_at lw_m1 160 rfl) rfl
theorem q234 : (Jvm.Cond.fieldLink "PassportOffice$Reader" (118 : Nat) "PassportOffice$Reader" "deep" "I") ∈ lw_all := lw_g (lw_at lw_m1 161 rfl) rfl
theorem q235 : (Jvm.Cond.fieldLink "PassportOffice$Reader" (176 : Nat) "PassportOffice$Reader" "signs" "I") ∈ lw_all := lw_g (lw_at lw_m1 162 rfl) rfl
theorem q236 : (Jvm.Cond.laysFinal "PassportOffice$Reader" "PassportOffice$Reader" "tape" "[B") ∈ lw_all := lw_g (lw_at lw_m1 163 rfl) rfl
theorem q237 : (Jvm.Cond.soleField "PassportOffice$Reader" "tape") ∈ lw_all := lw_g (lw_at lw_m1 164 rfl) rfl
theorem q238 : (Jvm.Cond.laysFinal "PassportOffice$Reader" "PassportOffice$Reader" "words" "[Ljava/lang/String;") ∈ lw_all := lw_g (lw_at lw_m1 165 rfl) rfl
theorem q239 : (Jvm.Cond.soleField "PassportOffice$Reader" "words") ∈ lw_all := lw_g (lw_at lw_m1 166 rfl) rfl
theorem q240 : (Jvm.Cond.laysFinal "PassportOffice$Reader" "PassportOffice$Reader" "items" "[Ljava/lang/String;") ∈ lw_all := lw_g (lw_at lw_m1 167 rfl) rfl
theorem q241 : (Jvm.Cond.soleField "PassportOffice$Reader" "items") ∈ lw_all := lw_g (lw_at lw_m1 168 rfl) rfl
theorem q242 : (Jvm.Cond.laysFinal "PassportOffice$Reader" "PassportOffice$Reader" "facts" "[Ljava/lang/String;") ∈ lw_all := lw_g (lw_at lw_m1 169 rfl) rfl
theorem q243 : (Jvm.Cond.soleField "PassportOffice$Reader" "facts") ∈ lw_all := lw_g (lw_at lw_m1 170 rfl) rfl
theorem q244 : (Jvm.Cond.laysFinal "PassportOffice$Reader" "PassportOffice$Reader" "row" "[LPassportOffice$Clause;") ∈ lw_all := lw_g (lw_at lw_m1 171 rfl) rfl
theorem q245 : (Jvm.Cond.soleField "PassportOffice$Reader" "row") ∈ lw_all := lw_g (lw_at lw_m1 172 rfl) rfl
theorem q246 : (Jvm.Cond.laysFinal "PassportOffice$Reader" "PassportOffice$Reader" "turned" "[B") ∈ lw_all := lw_g (lw_at lw_m1 173 rfl) rfl
theorem q247 : (Jvm.Cond.soleField "PassportOffice$Reader" "turned") ∈ lw_all := lw_g (lw_at lw_m1 174 rfl) rfl
theorem q248 : (Jvm.Cond.laysFinal "PassportOffice$Reader" "PassportOffice$Reader" "wrong" "LPassportOffice$Wrong;") ∈ lw_all := lw_g (lw_at lw_m1 175 rfl) rfl
theorem q249 : (Jvm.Cond.soleField "PassportOffice$Reader" "wrong") ∈ lw_all := lw_g (lw_at lw_m1 176 rfl) rfl
theorem q250 : (Jvm.Cond.lays "PassportOffice$Reader" "PassportOffice$Reader" "size" "I") ∈ lw_all := lw_g (lw_at lw_m1 177 rfl) rfl
theorem q251 : (Jvm.Cond.soleField "PassportOffice$Reader" "size") ∈ lw_all := lw_g (lw_at lw_m1 178 rfl) rfl
theorem q252 : (Jvm.Cond.lays "PassportOffice$Reader" "PassportOffice$Reader" "end" "I") ∈ lw_all := lw_g (lw_at lw_m1 179 rfl) rfl
theorem q253 : (Jvm.Cond.soleField "PassportOffice$Reader" "end") ∈ lw_all := lw_g (lw_at lw_m1 180 rfl) rfl
theorem q254 : (Jvm.Cond.lays "PassportOffice$Reader" "PassportOffice$Reader" "at" "I") ∈ lw_all := lw_g (lw_at lw_m1 181 rfl) rfl
theorem q255 : (Jvm.Cond.soleField "PassportOffice$Reader" "at") ∈ lw_all := lw_g (lw_at lw_m1 182 rfl) rfl
theorem q256 : (Jvm.Cond.lays "PassportOffice$Reader" "PassportOffice$Reader" "deep" "I") ∈ lw_all := lw_g (lw_at lw_m1 183 rfl) rfl
theorem q257 : (Jvm.Cond.soleField "PassportOffice$Reader" "deep") ∈ lw_all := lw_g (lw_at lw_m1 184 rfl) rfl
theorem q258 : (Jvm.Cond.lays "PassportOffice$Reader" "PassportOffice$Reader" "signs" "I") ∈ lw_all := lw_g (lw_at lw_m1 185 rfl) rfl
theorem q259 : (Jvm.Cond.soleField "PassportOffice$Reader" "signs") ∈ lw_all := lw_g (lw_at lw_m1 186 rfl) rfl
theorem q260 : (Jvm.Cond.superclass "PassportOffice$Reader" "java/lang/Object") ∈ lw_all := lw_g (lw_at lw_m1 187 rfl) rfl
theorem q469 : (Jvm.Cond.instanceMethod ({ cls := "PassportOffice$Reader", name := "law", desc := "(II)LPassportOffice$Law;" } : Jvm.MethodName)) ∈ lw_all := lw_g (lw_at lw_m2 156 rfl) rfl
theorem q470 : (Jvm.Cond.selects "PassportOffice$Reader" ({ cls := "PassportOffice$Reader", name := "law", desc := "(II)LPassportOffice$Law;" } : Jvm.MethodName) ({ cls := "PassportOffice$Reader", name := "law", desc := "(II)LPassportOffice$Law;" } : Jvm.MethodName)) ∈ lw_all := lw_g (lw_at lw_m2 157 rfl) rfl
theorem q471 : (Jvm.Cond.code ({ cls := "PassportOffice$Reader", name := "law", desc := "(II)LPassportOffice$Law;" } : Jvm.MethodName) prog_13_method_7_code (6 : Nat) (Option.some (Jvm.ClassFile.FieldType.object "PassportOffice$Law"))) ∈ lw_all := lw_g (lw_at lw_m2 158 rfl) rfl
theorem q472 : (Jvm.Cond.methodLink "PassportOffice$Reader" (99 : Nat) ({ cls := "PassportOffice$Reader", name := "sign", desc := "()I" } : Jvm.MethodName)) ∈ lw_all := lw_g (lw_at lw_m2 159 rfl) rfl
theorem q473 : (Jvm.Cond.privateMethod ({ cls := "PassportOffice$Reader", name := "sign", desc := "()I" } : Jvm.MethodName)) ∈ lw_tbl := lw_at lw_m2 160 rfl
theorem q474 : (Jvm.Cond.instanceMethod ({ cls := "PassportOffice$Reader", name := "sign", desc := "()I" } : Jvm.MethodName)) ∈ lw_all := lw_g (lw_at lw_m2 161 rfl) rfl
theorem q475 : (Jvm.Cond.code ({ cls := "PassportOffice$Reader", name := "sign", desc := "()I" } : Jvm.MethodName) prog_13_method_3_code (1 : Nat) (Option.some Jvm.ClassFile.FieldType.int)) ∈ lw_all := lw_g (lw_at lw_m2 162 rfl) rfl
theorem q476 : (Jvm.Cond.methodLink "PassportOffice$Reader" (114 : Nat) ({ cls := "PassportOffice$Reader", name := "fail", desc := "(I)V" } : Jvm.MethodName)) ∈ lw_all := lw_g (lw_at lw_m2 163 rfl) rfl
theorem q477 : (Jvm.Cond.privateMethod ({ cls := "PassportOffice$Reader", name := "fail", desc := "(I)V" } : Jvm.MethodName)) ∈ lw_tbl := lw_at lw_m2 164 rfl
theorem q478 : (Jvm.Cond.instanceMethod ({ cls := "PassportOffice$Reader", name := "fail", desc := "(I)V" } : Jvm.MethodName)) ∈ lw_all := lw_g (lw_at lw_m2 165 rfl) rfl
theorem q479 : (Jvm.Cond.code ({ cls := "PassportOffice$Reader", name := "fail", desc := "(I)V" } : Jvm.MethodName) prog_13_method_2_code (2 : Nat) (Option.none : Option Jvm.ClassFile.FieldType)) ∈ lw_all := lw_g (lw_at lw_m2 166 rfl) rfl
theorem q480 : (Jvm.Cond.methodLink "PassportOffice$Reader" (121 : Nat) ({ cls := "PassportOffice$Reader", name := "clause", desc := "()LPassportOffice$Clause;" } : Jvm.MethodName)) ∈ lw_all := lw_g (lw_at lw_m2 167 rfl) rfl
theorem q481 : (Jvm.Cond.privateMethod ({ cls := "PassportOffice$Reader", name := "clause", desc := "()LPassportOffice$Clause;" } : Jvm.MethodName)) ∈ lw_tbl := lw_at lw_m2 168 rfl
theorem q482 : (Jvm.Cond.instanceMethod ({ cls := "PassportOffice$Reader", name := "clause", desc := "()LPassportOffice$Clause;" } : Jvm.MethodName)) ∈ lw_all := lw_g (lw_at lw_m2 169 rfl) rfl
theorem q483 : (Jvm.Cond.code ({ cls := "PassportOffice$Reader", name := "clause", desc := "()LPassportOffice$Clause;" } : Jvm.MethodName) prog_13_method_8_code (3 : Nat) (Option.some (Jvm.ClassFile.FieldType.object "PassportOffice$Clause"))) ∈ lw_all := lw_g (lw_at lw_m2 170 rfl) rfl
theorem q484 : (Jvm.Cond.methodLink "PassportOffice$Reader" (130 : Nat) ({ cls := "PassportOffice$Reader", name := "one", desc := "([Ljava/lang/String;)I" } : Jvm.MethodName)) ∈ lw_all := lw_g (lw_at lw_m2 171 rfl) rfl
theorem q485 : (Jvm.Cond.privateMethod ({ cls := "PassportOffice$Reader", name := "one", desc := "([Ljava/lang/String;)I" } : Jvm.MethodName)) ∈ lw_tbl := lw_at lw_m2 172 rfl
theorem q486 : (Jvm.Cond.instanceMethod ({ cls := "PassportOffice$Reader", name := "one", desc := "([Ljava/lang/String;)I" } : Jvm.MethodName)) ∈ lw_all := lw_g (lw_at lw_m2 173 rfl) rfl
theorem q487 : (Jvm.Cond.code ({ cls := "PassportOffice$Reader", name := "one", desc := "([Ljava/lang/String;)I" } : Jvm.MethodName) prog_13_method_5_code (3 : Nat) (Option.some Jvm.ClassFile.FieldType.int)) ∈ lw_all := lw_g (lw_at lw_m2 174 rfl) rfl
theorem q488 : (Jvm.Cond.methodLink "PassportOffice$Reader" (110 : Nat) ({ cls := "PassportOffice$Reader", name := "takes", desc := "(Ljava/lang/String;)Z" } : Jvm.MethodName)) ∈ lw_all := lw_g (lw_at lw_m2 175 rfl) rfl
theorem q489 : (Jvm.Cond.privateMethod ({ cls := "PassportOffice$Reader", name := "takes", desc := "(Ljava/lang/String;)Z" } : Jvm.MethodName)) ∈ lw_tbl := lw_at lw_m2 176 rfl
theorem q490 : (Jvm.Cond.instanceMethod ({ cls := "PassportOffice$Reader", name := "takes", desc := "(Ljava/lang/String;)Z" } : Jvm.MethodName)) ∈ lw_all := lw_g (lw_at lw_m2 177 rfl) rfl
theorem q491 : (Jvm.Cond.code ({ cls := "PassportOffice$Reader", name := "takes", desc := "(Ljava/lang/String;)Z" } : Jvm.MethodName) prog_13_method_4_code (6 : Nat) (Option.some Jvm.ClassFile.FieldType.boolean)) ∈ lw_all := lw_g (lw_at lw_m2 178 rfl) rfl
theorem q492 : (Jvm.Cond.methodLink "PassportOffice$Reader" (103 : Nat) ({ cls := "java/lang/String", name := "length", desc := "()I" } : Jvm.MethodName)) ∈ lw_all := lw_g (lw_at lw_m2 179 rfl) rfl
theorem q502 : (Jvm.Cond.methodLink "PassportOffice$Reader" (106 : Nat) ({ cls := "java/lang/String", name := "charAt", desc := "(I)C" } : Jvm.MethodName)) ∈ lw_all := lw_g (lw_at lw_m2 189 rfl) rfl
theorem q540 : (Jvm.Cond.methodLink "PassportOffice$Reader" (134 : Nat) ({ cls := "PassportOffice$Reader", name := "number", desc := "()I" } : Jvm.MethodName)) ∈ lw_all := lw_g (lw_at lw_m2 227 rfl) rfl
theorem q541 : (Jvm.Cond.privateMethod ({ cls := "PassportOffice$Reader", name := "number", desc := "()I" } : Jvm.MethodName)) ∈ lw_tbl := lw_at lw_m2 228 rfl
theorem q542 : (Jvm.Cond.instanceMethod ({ cls := "PassportOffice$Reader", name := "number", desc := "()I" } : Jvm.MethodName)) ∈ lw_all := lw_g (lw_at lw_m2 229 rfl) rfl
theorem q543 : (Jvm.Cond.code ({ cls := "PassportOffice$Reader", name := "number", desc := "()I" } : Jvm.MethodName) prog_13_method_6_code (4 : Nat) (Option.some Jvm.ClassFile.FieldType.int)) ∈ lw_all := lw_g (lw_at lw_m2 230 rfl) rfl
theorem q545 : (Jvm.Cond.stringRef "PassportOffice$Reader" (137 : Nat) "if") ∈ lw_tbl := lw_at lw_m2 232 rfl
theorem q546 : (Jvm.Cond.methodLink "PassportOffice$Reader" (139 : Nat) ({ cls := "PassportOffice$Reader", name := "cond", desc := "()LPassportOffice$Cond;" } : Jvm.MethodName)) ∈ lw_all := lw_g (lw_at lw_m2 233 rfl) rfl
theorem q547 : (Jvm.Cond.privateMethod ({ cls := "PassportOffice$Reader", name := "cond", desc := "()LPassportOffice$Cond;" } : Jvm.MethodName)) ∈ lw_tbl := lw_at lw_m2 234 rfl
theorem q548 : (Jvm.Cond.instanceMethod ({ cls := "PassportOffice$Reader", name := "cond", desc := "()LPassportOffice$Cond;" } : Jvm.MethodName)) ∈ lw_all := lw_g (lw_at lw_m2 235 rfl) rfl
theorem q549 : (Jvm.Cond.code ({ cls := "PassportOffice$Reader", name := "cond", desc := "()LPassportOffice$Cond;" } : Jvm.MethodName) prog_13_method_9_code (2 : Nat) (Option.some (Jvm.ClassFile.FieldType.object "PassportOffice$Cond"))) ∈ lw_all := lw_g (lw_at lw_m2 236 rfl) rfl
theorem q550 : (Jvm.Cond.methodLink "PassportOffice$Reader" (146 : Nat) ({ cls := "PassportOffice$Reader", name := "all", desc := "()LPassportOffice$Cond;" } : Jvm.MethodName)) ∈ lw_all := lw_g (lw_at lw_m2 237 rfl) rfl
theorem q551 : (Jvm.Cond.privateMethod ({ cls := "PassportOffice$Reader", name := "all", desc := "()LPassportOffice$Cond;" } : Jvm.MethodName)) ∈ lw_tbl := lw_at lw_m2 238 rfl
theorem q552 : (Jvm.Cond.instanceMethod ({ cls := "PassportOffice$Reader", name := "all", desc := "()LPassportOffice$Cond;" } : Jvm.MethodName)) ∈ lw_all := lw_g (lw_at lw_m2 239 rfl) rfl
theorem q553 : (Jvm.Cond.code ({ cls := "PassportOffice$Reader", name := "all", desc := "()LPassportOffice$Cond;" } : Jvm.MethodName) prog_13_method_10_code (2 : Nat) (Option.some (Jvm.ClassFile.FieldType.object "PassportOffice$Cond"))) ∈ lw_all := lw_g (lw_at lw_m3 0 rfl) rfl
theorem q554 : (Jvm.Cond.methodLink "PassportOffice$Reader" (156 : Nat) ({ cls := "PassportOffice$Reader", name := "atom", desc := "()LPassportOffice$Cond;" } : Jvm.MethodName)) ∈ lw_all := lw_g (lw_at lw_m3 1 rfl) rfl
theorem q555 : (Jvm.Cond.privateMethod ({ cls := "PassportOffice$Reader", name := "atom", desc := "()LPassportOffice$Cond;" } : Jvm.MethodName)) ∈ lw_tbl := lw_at lw_m3 2 rfl
theorem q556 : (Jvm.Cond.instanceMethod ({ cls := "PassportOffice$Reader", name := "atom", desc := "()LPassportOffice$Cond;" } : Jvm.MethodName)) ∈ lw_all := lw_g (lw_at lw_m3 3 rfl) rfl
theorem q557 : (Jvm.Cond.code ({ cls := "PassportOffice$Reader", name := "atom", desc := "()LPassportOffice$Cond;" } : Jvm.MethodName) prog_13_method_11_code (5 : Nat) (Option.some (Jvm.ClassFile.FieldType.object "PassportOffice$Cond"))) ∈ lw_all := lw_g (lw_at lw_m3 4 rfl) rfl
theorem q558 : (Jvm.Cond.stringRef "PassportOffice$Reader" (161 : Nat) "not") ∈ lw_tbl := lw_at lw_m3 5 rfl
theorem q559 : (Jvm.Cond.methodLink "PassportOffice$Reader" (163 : Nat) ({ cls := "PassportOffice$Reader", name := "fact", desc := "()LPassportOffice$Cond;" } : Jvm.MethodName)) ∈ lw_all := lw_g (lw_at lw_m3 6 rfl) rfl
theorem q560 : (Jvm.Cond.privateMethod ({ cls := "PassportOffice$Reader", name := "fact", desc := "()LPassportOffice$Cond;" } : Jvm.MethodName)) ∈ lw_tbl := lw_at lw_m3 7 rfl
theorem q561 : (Jvm.Cond.instanceMethod ({ cls := "PassportOffice$Reader", name := "fact", desc := "()LPassportOffice$Cond;" } : Jvm.MethodName)) ∈ lw_all := lw_g (lw_at lw_m3 8 rfl) rfl
theorem q562 : (Jvm.Cond.code ({ cls := "PassportOffice$Reader", name := "fact", desc := "()LPassportOffice$Cond;" } : Jvm.MethodName) prog_13_method_12_code (3 : Nat) (Option.some (Jvm.ClassFile.FieldType.object "PassportOffice$Cond"))) ∈ lw_all := lw_g (lw_at lw_m3 9 rfl) rfl
theorem q563 : (Jvm.Cond.classLink "PassportOffice$Reader" (171 : Nat) "PassportOffice$Fact") ∈ lw_all := lw_g (lw_at lw_m3 10 rfl) rfl
theorem q565 : (Jvm.Cond.methodLink "PassportOffice$Reader" (173 : Nat) ({ cls := "PassportOffice$Fact", name := "<init>", desc := "(ICI)V" } : Jvm.MethodName)) ∈ lw_all := lw_g (lw_at lw_m3 12 rfl) rfl
theorem q582 : (Jvm.Cond.classLink "PassportOffice$Reader" (166 : Nat) "PassportOffice$Not") ∈ lw_all := lw_g (lw_at lw_m3 29 rfl) rfl
theorem q584 : (Jvm.Cond.methodLink "PassportOffice$Reader" (168 : Nat) ({ cls := "PassportOffice$Not", name := "<init>", desc := "(LPassportOffice$Cond;)V" } : Jvm.MethodName)) ∈ lw_all := lw_g (lw_at lw_m3 31 rfl) rfl
theorem q592 : (Jvm.Cond.stringRef "PassportOffice$Reader" (159 : Nat) "and") ∈ lw_tbl := lw_at lw_m3 39 rfl
theorem q593 : (Jvm.Cond.classLink "PassportOffice$Reader" (151 : Nat) "PassportOffice$Pair") ∈ lw_all := lw_g (lw_at lw_m3 40 rfl) rfl
theorem q595 : (Jvm.Cond.methodLink "PassportOffice$Reader" (153 : Nat) ({ cls := "PassportOffice$Pair", name := "<init>", desc := "(LPassportOffice$Cond;LPassportOffice$Cond;Z)V" } : Jvm.MethodName)) ∈ lw_all := lw_g (lw_at lw_m3 42 rfl) rfl
theorem q609 : (Jvm.Cond.stringRef "PassportOffice$Reader" (149 : Nat) "or") ∈ lw_tbl := lw_at lw_m3 56 rfl
theorem q610 : (Jvm.Cond.methodLink "PassportOffice$Reader" (143 : Nat) ({ cls := "PassportOffice$Clause", name := "<init>", desc := "(IILPassportOffice$Cond;)V" } : Jvm.MethodName)) ∈ lw_all := lw_g (lw_at lw_m3 57 rfl) rfl
theorem q627 : (Jvm.Cond.classLink "PassportOffice$Reader" (125 : Nat) "PassportOffice$Law") ∈ lw_all := lw_g (lw_at lw_m3 74 rfl) rfl
theorem q629 : (Jvm.Cond.methodLink "PassportOffice$Reader" (127 : Nat) ({ cls := "PassportOffice$Law", name := "<init>", desc := "(I[LPassportOffice$Clause;I)V" } : Jvm.MethodName)) ∈ lw_all := lw_g (lw_at lw_m3 76 rfl) rfl
theorem q757 : (Jvm.Cond.instanceMethod ({ cls := "PassportOffice$Reader", name := "name", desc := "(I)I" } : Jvm.MethodName)) ∈ lw_all := lw_g (lw_at lw_m3 204 rfl) rfl
theorem q758 : (Jvm.Cond.selects "PassportOffice$Reader" ({ cls := "PassportOffice$Reader", name := "name", desc := "(I)I" } : Jvm.MethodName) ({ cls := "PassportOffice$Reader", name := "name", desc := "(I)I" } : Jvm.MethodName)) ∈ lw_all := lw_g (lw_at lw_m3 205 rfl) rfl
theorem q759 : (Jvm.Cond.code ({ cls := "PassportOffice$Reader", name := "name", desc := "(I)I" } : Jvm.MethodName) prog_13_method_14_code (5 : Nat) (Option.some Jvm.ClassFile.FieldType.int)) ∈ lw_all := lw_g (lw_at lw_m3 206 rfl) rfl
theorem q760 : (Jvm.Cond.methodLink "PassportOffice$Reader" (179 : Nat) ({ cls := "PassportOffice$Reader", name := "turn", desc := "(I)I" } : Jvm.MethodName)) ∈ lw_all := lw_g (lw_at lw_m3 207 rfl) rfl
theorem q761 : (Jvm.Cond.static ({ cls := "PassportOffice$Reader", name := "turn", desc := "(I)I" } : Jvm.MethodName)) ∈ lw_all := lw_g (lw_at lw_m3 208 rfl) rfl
theorem q762 : (Jvm.Cond.code ({ cls := "PassportOffice$Reader", name := "turn", desc := "(I)I" } : Jvm.MethodName) prog_13_method_13_code (1 : Nat) (Option.some Jvm.ClassFile.FieldType.int)) ∈ lw_all := lw_g (lw_at lw_m3 209 rfl) rfl
theorem q1871 : (Jvm.Cond.castable "PassportOffice$Reader" "java/lang/Object") ∈ lw_tbl := lw_at lw_m8 118 rfl
theorem in_X2 : ∀ w ∈ wsX20, w ∈ lw_all := lw_in wsX20 [236, 238, 240, 242, 244, 246, 248, 250, 252, 254, 256, 258] (by decide +kernel) (by decide +kernel)
theorem q79 : (Jvm.Cond.initialized "PassportOffice$Wrong") ∈ lw_all := lw_g (lw_at lw_m1 6 rfl) rfl
theorem q148 : (Jvm.Cond.instantiable "PassportOffice$Wrong" (7 : Nat)) ∈ lw_all := lw_g (lw_at lw_m1 75 rfl) rfl
theorem q149 : (Jvm.Cond.castable "PassportOffice$Wrong" "PassportOffice$Wrong") ∈ lw_tbl := lw_at lw_m1 76 rfl
theorem q156 : (Jvm.Cond.selects "PassportOffice$Wrong" ({ cls := "java/lang/Throwable", name := "fillInStackTrace", desc := "(I)Ljava/lang/Throwable;" } : Jvm.MethodName) ({ cls := "java/lang/Throwable", name := "fillInStackTrace", desc := "(I)Ljava/lang/Throwable;" } : Jvm.MethodName)) ∈ lw_all := lw_g (lw_at lw_m1 83 rfl) rfl
theorem q157 : (Jvm.Cond.selects "PassportOffice$Wrong" ({ cls := "java/lang/Throwable", name := "fillInStackTrace", desc := "()Ljava/lang/Throwable;" } : Jvm.MethodName) ({ cls := "java/lang/Throwable", name := "fillInStackTrace", desc := "()Ljava/lang/Throwable;" } : Jvm.MethodName)) ∈ lw_all := lw_g (lw_at lw_m1 84 rfl) rfl
theorem q158 : (Jvm.Cond.lays "PassportOffice$Wrong" "java/lang/Throwable" "cause" "Ljava/lang/Throwable;") ∈ lw_all := lw_g (lw_at lw_m1 85 rfl) rfl
theorem q160 : (Jvm.Cond.lays "PassportOffice$Wrong" "java/lang/Throwable" "stackTrace" "[Ljava/lang/StackTraceElement;") ∈ lw_all := lw_g (lw_at lw_m1 87 rfl) rfl
theorem q162 : (Jvm.Cond.lays "PassportOffice$Wrong" "java/lang/Throwable" "suppressedExceptions" "Ljava/util/List;") ∈ lw_all := lw_g (lw_at lw_m1 89 rfl) rfl
theorem q164 : (Jvm.Cond.lays "PassportOffice$Wrong" "java/lang/Throwable" "detailMessage" "Ljava/lang/String;") ∈ lw_all := lw_g (lw_at lw_m1 91 rfl) rfl
theorem q166 : (Jvm.Cond.lays "PassportOffice$Wrong" "java/lang/Throwable" "backtrace" "Ljava/lang/Object;") ∈ lw_all := lw_g (lw_at lw_m1 93 rfl) rfl
theorem q193 : (Jvm.Cond.instanceMethod ({ cls := "PassportOffice$Wrong", name := "<init>", desc := "()V" } : Jvm.MethodName)) ∈ lw_all := lw_g (lw_at lw_m1 120 rfl) rfl
theorem q194 : (Jvm.Cond.code ({ cls := "PassportOffice$Wrong", name := "<init>", desc := "()V" } : Jvm.MethodName) prog_16_method_1_code (1 : Nat) (Option.none : Option Jvm.ClassFile.FieldType)) ∈ lw_all := lw_g (lw_at lw_m1 121 rfl) rfl
theorem q195 : (Jvm.Cond.methodLink "PassportOffice$Wrong" (1 : Nat) ({ cls := "java/lang/RuntimeException", name := "<init>", desc := "(Ljava/lang/String;Ljava/lang/Throwable;ZZ)V" } : Jvm.MethodName)) ∈ lw_all := lw_g (lw_at lw_m1 122 rfl) rfl
theorem q211 : (Jvm.Cond.lays "PassportOffice$Wrong" "PassportOffice$Wrong" "place" "I") ∈ lw_all := lw_g (lw_at lw_m1 138 rfl) rfl
theorem q212 : (Jvm.Cond.soleField "PassportOffice$Wrong" "place") ∈ lw_all := lw_g (lw_at lw_m1 139 rfl) rfl
theorem q217 : (Jvm.Cond.lays "PassportOffice$Wrong" "java/lang/Throwable" "depth" "I") ∈ lw_all := lw_g (lw_at lw_m1 144 rfl) rfl
theorem q220 : (Jvm.Cond.superclass "PassportOffice$Wrong" "java/lang/RuntimeException") ∈ lw_all := lw_g (lw_at lw_m1 147 rfl) rfl
theorem q1872 : (Jvm.Cond.castable "PassportOffice$Wrong" "java/lang/Object") ∈ lw_tbl := lw_at lw_m8 119 rfl
theorem in_X3 : ∀ w ∈ wsX30, w ∈ lw_all := lw_in wsX30 [158, 160, 162, 164, 166, 217, 211] (by decide +kernel) (by decide +kernel)
theorem q80 : (Jvm.Cond.initialized "PassportOffice$World") ∈ lw_all := lw_g (lw_at lw_m1 7 rfl) rfl
theorem q270 : (Jvm.Cond.instantiable "PassportOffice$World" (6 : Nat)) ∈ lw_all := lw_g (lw_at lw_m1 197 rfl) rfl
theorem q272 : (Jvm.Cond.instanceMethod ({ cls := "PassportOffice$World", name := "<init>", desc := "()V" } : Jvm.MethodName)) ∈ lw_all := lw_g (lw_at lw_m1 199 rfl) rfl
theorem q273 : (Jvm.Cond.code ({ cls := "PassportOffice$World", name := "<init>", desc := "()V" } : Jvm.MethodName) prog_15_method_1_code (1 : Nat) (Option.none : Option Jvm.ClassFile.FieldType)) ∈ lw_all := lw_g (lw_at lw_m1 200 rfl) rfl
theorem q274 : (Jvm.Cond.methodLink "PassportOffice$World" (3 : Nat) ({ cls := "java/lang/Object", name := "<init>", desc := "()V" } : Jvm.MethodName)) ∈ lw_all := lw_g (lw_at lw_m1 201 rfl) rfl
theorem q275 : (Jvm.Cond.classLink "PassportOffice$World" (9 : Nat) "PassportOffice$Move") ∈ lw_all := lw_g (lw_at lw_m1 202 rfl) rfl
theorem q277 : (Jvm.Cond.fieldLink "PassportOffice$World" (11 : Nat) "PassportOffice$World" "moves" "[LPassportOffice$Move;") ∈ lw_all := lw_g (lw_at lw_m1 204 rfl) rfl
theorem q279 : (Jvm.Cond.fieldLink "PassportOffice$World" (22 : Nat) "PassportOffice$World" "today" "I") ∈ lw_all := lw_g (lw_at lw_m1 206 rfl) rfl
theorem q281 : (Jvm.Cond.fieldLink "PassportOffice$World" (26 : Nat) "PassportOffice$World" "blanks" "I") ∈ lw_all := lw_g (lw_at lw_m1 208 rfl) rfl
theorem q283 : (Jvm.Cond.fieldLink "PassportOffice$World" (29 : Nat) "PassportOffice$World" "calls" "I") ∈ lw_all := lw_g (lw_at lw_m1 210 rfl) rfl
theorem q285 : (Jvm.Cond.fieldLink "PassportOffice$World" (32 : Nat) "PassportOffice$World" "left" "I") ∈ lw_all := lw_g (lw_at lw_m1 212 rfl) rfl
theorem q287 : (Jvm.Cond.fieldLink "PassportOffice$World" (35 : Nat) "PassportOffice$World" "booklets" "I") ∈ lw_all := lw_g (lw_at lw_m1 214 rfl) rfl
theorem q289 : (Jvm.Cond.laysFinal "PassportOffice$World" "PassportOffice$World" "moves" "[LPassportOffice$Move;") ∈ lw_all := lw_g (lw_at lw_m1 216 rfl) rfl
theorem q290 : (Jvm.Cond.soleField "PassportOffice$World" "moves") ∈ lw_all := lw_g (lw_at lw_m1 217 rfl) rfl
theorem q291 : (Jvm.Cond.lays "PassportOffice$World" "PassportOffice$World" "today" "I") ∈ lw_all := lw_g (lw_at lw_m1 218 rfl) rfl
theorem q292 : (Jvm.Cond.soleField "PassportOffice$World" "today") ∈ lw_all := lw_g (lw_at lw_m1 219 rfl) rfl
theorem q293 : (Jvm.Cond.lays "PassportOffice$World" "PassportOffice$World" "blanks" "I") ∈ lw_all := lw_g (lw_at lw_m1 220 rfl) rfl
theorem q294 : (Jvm.Cond.soleField "PassportOffice$World" "blanks") ∈ lw_all := lw_g (lw_at lw_m1 221 rfl) rfl
theorem q295 : (Jvm.Cond.lays "PassportOffice$World" "PassportOffice$World" "calls" "I") ∈ lw_all := lw_g (lw_at lw_m1 222 rfl) rfl
theorem q296 : (Jvm.Cond.soleField "PassportOffice$World" "calls") ∈ lw_all := lw_g (lw_at lw_m1 223 rfl) rfl
theorem q297 : (Jvm.Cond.lays "PassportOffice$World" "PassportOffice$World" "left" "I") ∈ lw_all := lw_g (lw_at lw_m1 224 rfl) rfl
theorem q298 : (Jvm.Cond.soleField "PassportOffice$World" "left") ∈ lw_all := lw_g (lw_at lw_m1 225 rfl) rfl
theorem q299 : (Jvm.Cond.lays "PassportOffice$World" "PassportOffice$World" "booklets" "I") ∈ lw_all := lw_g (lw_at lw_m1 226 rfl) rfl
theorem q300 : (Jvm.Cond.soleField "PassportOffice$World" "booklets") ∈ lw_all := lw_g (lw_at lw_m1 227 rfl) rfl
theorem q301 : (Jvm.Cond.superclass "PassportOffice$World" "java/lang/Object") ∈ lw_all := lw_g (lw_at lw_m1 228 rfl) rfl
theorem q1236 : (Jvm.Cond.instanceMethod ({ cls := "PassportOffice$World", name := "be", desc := "(LPassportOffice$World;I)V" } : Jvm.MethodName)) ∈ lw_all := lw_g (lw_at lw_m5 203 rfl) rfl
theorem q1237 : (Jvm.Cond.selects "PassportOffice$World" ({ cls := "PassportOffice$World", name := "be", desc := "(LPassportOffice$World;I)V" } : Jvm.MethodName) ({ cls := "PassportOffice$World", name := "be", desc := "(LPassportOffice$World;I)V" } : Jvm.MethodName)) ∈ lw_all := lw_g (lw_at lw_m5 204 rfl) rfl
theorem q1238 : (Jvm.Cond.code ({ cls := "PassportOffice$World", name := "be", desc := "(LPassportOffice$World;I)V" } : Jvm.MethodName) prog_15_method_2_code (4 : Nat) (Option.none : Option Jvm.ClassFile.FieldType)) ∈ lw_all := lw_g (lw_at lw_m5 205 rfl) rfl
theorem q1239 : (Jvm.Cond.methodLinkNest "PassportOffice$World" (17 : Nat) ({ cls := "PassportOffice$Move", name := "<init>", desc := "()V" } : Jvm.MethodName) "PassportOffice") ∈ lw_tbl := lw_at lw_m5 206 rfl
theorem q1240 : (Jvm.Cond.methodLink "PassportOffice$World" (18 : Nat) ({ cls := "PassportOffice$Move", name := "be", desc := "(LPassportOffice$Move;)V" } : Jvm.MethodName)) ∈ lw_all := lw_g (lw_at lw_m5 207 rfl) rfl
theorem q1873 : (Jvm.Cond.castable "PassportOffice$World" "java/lang/Object") ∈ lw_tbl := lw_at lw_m8 120 rfl
theorem in_X4 : ∀ w ∈ wsX40, w ∈ lw_all := lw_in wsX40 [289, 291, 293, 295, 297, 299] (by decide +kernel) (by decide +kernel)
theorem q81 : (Jvm.Cond.initialized "PassportOfficeModel") ∈ lw_all := lw_g (lw_at lw_m1 8 rfl) rfl
theorem q1256 : (Jvm.Cond.instantiable "PassportOfficeModel" (83 : Nat)) ∈ lw_all := lw_g (lw_at lw_m5 223 rfl) rfl
theorem q1258 : (Jvm.Cond.instanceMethod ({ cls := "PassportOfficeModel", name := "<init>", desc := "()V" } : Jvm.MethodName)) ∈ lw_all := lw_g (lw_at lw_m5 225 rfl) rfl
theorem q1259 : (Jvm.Cond.code ({ cls := "PassportOfficeModel", name := "<init>", desc := "()V" } : Jvm.MethodName) prog_18_method_1_code (1 : Nat) (Option.none : Option Jvm.ClassFile.FieldType)) ∈ lw_all := lw_g (lw_at lw_m5 226 rfl) rfl
theorem q1260 : (Jvm.Cond.methodLink "PassportOfficeModel" (3 : Nat) ({ cls := "java/lang/Object", name := "<init>", desc := "()V" } : Jvm.MethodName)) ∈ lw_all := lw_g (lw_at lw_m5 227 rfl) rfl
theorem q1261 : (Jvm.Cond.fieldLink "PassportOfficeModel" (178 : Nat) "PassportOfficeModel" "thrown" "I") ∈ lw_all := lw_g (lw_at lw_m5 228 rfl) rfl
theorem q1262 : (Jvm.Cond.fieldLink "PassportOfficeModel" (314 : Nat) "PassportOfficeModel" "today" "I") ∈ lw_all := lw_g (lw_at lw_m5 229 rfl) rfl
theorem q1263 : (Jvm.Cond.fieldLink "PassportOfficeModel" (9 : Nat) "PassportOfficeModel" "tape" "[B") ∈ lw_all := lw_g (lw_at lw_m5 230 rfl) rfl
theorem q1264 : (Jvm.Cond.fieldLink "PassportOfficeModel" (181 : Nat) "PassportOfficeModel" "taped" "I") ∈ lw_all := lw_g (lw_at lw_m5 231 rfl) rfl
theorem q1265 : (Jvm.Cond.fieldLink "PassportOfficeModel" (187 : Nat) "PassportOfficeModel" "point" "I") ∈ lw_all := lw_g (lw_at lw_m5 232 rfl) rfl
theorem q1266 : (Jvm.Cond.fieldLink "PassportOfficeModel" (184 : Nat) "PassportOfficeModel" "end" "I") ∈ lw_all := lw_g (lw_at lw_m5 233 rfl) rfl
theorem q1267 : (Jvm.Cond.fieldLink "PassportOfficeModel" (194 : Nat) "PassportOfficeModel" "begin" "I") ∈ lw_all := lw_g (lw_at lw_m5 234 rfl) rfl
theorem q1268 : (Jvm.Cond.fieldLink "PassportOfficeModel" (258 : Nat) "PassportOfficeModel" "deep" "I") ∈ lw_all := lw_g (lw_at lw_m5 235 rfl) rfl
theorem q1269 : (Jvm.Cond.fieldLink "PassportOfficeModel" (13 : Nat) "PassportOfficeModel" "faultAt" "I") ∈ lw_all := lw_g (lw_at lw_m5 236 rfl) rfl
theorem q1270 : (Jvm.Cond.fieldLink "PassportOfficeModel" (17 : Nat) "PassportOfficeModel" "five" "[I") ∈ lw_all := lw_g (lw_at lw_m5 237 rfl) rfl
theorem q1271 : (Jvm.Cond.fieldLink "PassportOfficeModel" (21 : Nat) "PassportOfficeModel" "lawFrom" "[I") ∈ lw_all := lw_g (lw_at lw_m5 238 rfl) rfl
theorem q1272 : (Jvm.Cond.fieldLink "PassportOfficeModel" (24 : Nat) "PassportOfficeModel" "clauses" "[I") ∈ lw_all := lw_g (lw_at lw_m5 239 rfl) rfl
theorem q1273 : (Jvm.Cond.fieldLink "PassportOfficeModel" (27 : Nat) "PassportOfficeModel" "cSort" "[I") ∈ lw_all := lw_g (lw_at lw_m6 0 rfl) rfl
theorem q1274 : (Jvm.Cond.fieldLink "PassportOfficeModel" (30 : Nat) "PassportOfficeModel" "cNumber" "[I") ∈ lw_all := lw_g (lw_at lw_m6 1 rfl) rfl
theorem q1275 : (Jvm.Cond.fieldLink "PassportOfficeModel" (33 : Nat) "PassportOfficeModel" "cBegin" "[I") ∈ lw_all := lw_g (lw_at lw_m6 2 rfl) rfl
theorem q1276 : (Jvm.Cond.fieldLink "PassportOfficeModel" (36 : Nat) "PassportOfficeModel" "cEnd" "[I") ∈ lw_all := lw_g (lw_at lw_m6 3 rfl) rfl
theorem q1277 : (Jvm.Cond.fieldLink "PassportOfficeModel" (39 : Nat) "PassportOfficeModel" "step" "[I") ∈ lw_all := lw_g (lw_at lw_m6 4 rfl) rfl
theorem q1278 : (Jvm.Cond.fieldLink "PassportOfficeModel" (42 : Nat) "PassportOfficeModel" "how" "[I") ∈ lw_all := lw_g (lw_at lw_m6 5 rfl) rfl
theorem q1279 : (Jvm.Cond.fieldLink "PassportOfficeModel" (45 : Nat) "PassportOfficeModel" "than" "[I") ∈ lw_all := lw_g (lw_at lw_m6 6 rfl) rfl
theorem q1280 : (Jvm.Cond.fieldLink "PassportOfficeModel" (328 : Nat) "PassportOfficeModel" "laws" "I") ∈ lw_all := lw_g (lw_at lw_m6 7 rfl) rfl
theorem q1281 : (Jvm.Cond.fieldLink "PassportOfficeModel" (217 : Nat) "PassportOfficeModel" "steps" "I") ∈ lw_all := lw_g (lw_at lw_m6 8 rfl) rfl
theorem q1282 : (Jvm.Cond.fieldLink "PassportOfficeModel" (48 : Nat) "PassportOfficeModel" "facts" "[I") ∈ lw_all := lw_g (lw_at lw_m6 9 rfl) rfl
theorem q1283 : (Jvm.Cond.fieldLink "PassportOfficeModel" (51 : Nat) "PassportOfficeModel" "met" "[Z") ∈ lw_all := lw_g (lw_at lw_m6 10 rfl) rfl
theorem q1284 : (Jvm.Cond.fieldLink "PassportOfficeModel" (340 : Nat) "PassportOfficeModel" "jNeeds" "I") ∈ lw_all := lw_g (lw_at lw_m6 11 rfl) rfl
theorem q1285 : (Jvm.Cond.fieldLink "PassportOfficeModel" (343 : Nat) "PassportOfficeModel" "jFee" "I") ∈ lw_all := lw_g (lw_at lw_m6 12 rfl) rfl
theorem q1286 : (Jvm.Cond.fieldLink "PassportOfficeModel" (346 : Nat) "PassportOfficeModel" "jYears" "I") ∈ lw_all := lw_g (lw_at lw_m6 13 rfl) rfl
theorem q1287 : (Jvm.Cond.fieldLink "PassportOfficeModel" (349 : Nat) "PassportOfficeModel" "jRisk" "I") ∈ lw_all := lw_g (lw_at lw_m6 14 rfl) rfl
theorem q1288 : (Jvm.Cond.fieldLink "PassportOfficeModel" (352 : Nat) "PassportOfficeModel" "jBack" "I") ∈ lw_all := lw_g (lw_at lw_m6 15 rfl) rfl
theorem q1289 : (Jvm.Cond.fieldLink "PassportOfficeModel" (355 : Nat) "PassportOfficeModel" "jSee" "Z") ∈ lw_all := lw_g (lw_at lw_m6 16 rfl) rfl
theorem q1290 : (Jvm.Cond.fieldLink "PassportOfficeModel" (55 : Nat) "PassportOfficeModel" "born" "[I") ∈ lw_all := lw_g (lw_at lw_m6 17 rfl) rfl
theorem q1291 : (Jvm.Cond.fieldLink "PassportOfficeModel" (58 : Nat) "PassportOfficeModel" "isAbroad" "[Z") ∈ lw_all := lw_g (lw_at lw_m6 18 rfl) rfl
theorem q1292 : (Jvm.Cond.fieldLink "PassportOfficeModel" (61 : Nat) "PassportOfficeModel" "face" "[I") ∈ lw_all := lw_g (lw_at lw_m6 19 rfl) rfl
theorem q1293 : (Jvm.Cond.fieldLink "PassportOfficeModel" (64 : Nat) "PassportOfficeModel" "turned" "[I") ∈ lw_all := lw_g (lw_at lw_m6 20 rfl) rfl
theorem q1294 : (Jvm.Cond.fieldLink "PassportOfficeModel" (67 : Nat) "PassportOfficeModel" "hasName" "[Z") ∈ lw_all := lw_g (lw_at lw_m6 21 rfl) rfl
theorem q1295 : (Jvm.Cond.fieldLink "PassportOfficeModel" (372 : Nat) "PassportOfficeModel" "people" "I") ∈ lw_all := lw_g (lw_at lw_m6 22 rfl) rfl
theorem q1296 : (Jvm.Cond.fieldLink "PassportOfficeModel" (70 : Nat) "PassportOfficeModel" "told" "[I") ∈ lw_all := lw_g (lw_at lw_m6 23 rfl) rfl
theorem q1297 : (Jvm.Cond.fieldLink "PassportOfficeModel" (73 : Nat) "PassportOfficeModel" "draftName" "[I") ∈ lw_all := lw_g (lw_at lw_m6 24 rfl) rfl
theorem q1298 : (Jvm.Cond.fieldLink "PassportOfficeModel" (76 : Nat) "PassportOfficeModel" "patience" "I") ∈ lw_all := lw_g (lw_at lw_m6 25 rfl) rfl
theorem q1299 : (Jvm.Cond.fieldLink "PassportOfficeModel" (79 : Nat) "PassportOfficeModel" "limit" "I") ∈ lw_all := lw_g (lw_at lw_m6 26 rfl) rfl
theorem q1300 : (Jvm.Cond.fieldLink "PassportOfficeModel" (82 : Nat) "PassportOfficeModel" "doubt" "I") ∈ lw_all := lw_g (lw_at lw_m6 27 rfl) rfl
theorem q1301 : (Jvm.Cond.fieldLink "PassportOfficeModel" (85 : Nat) "PassportOfficeModel" "home" "I") ∈ lw_all := lw_g (lw_at lw_m6 28 rfl) rfl
theorem q1302 : (Jvm.Cond.fieldLink "PassportOfficeModel" (88 : Nat) "PassportOfficeModel" "away" "I") ∈ lw_all := lw_g (lw_at lw_m6 29 rfl) rfl
theorem q1303 : (Jvm.Cond.fieldLink "PassportOfficeModel" (403 : Nat) "PassportOfficeModel" "rule" "I") ∈ lw_all := lw_g (lw_at lw_m6 30 rfl) rfl
theorem q1304 : (Jvm.Cond.fieldLink "PassportOfficeModel" (406 : Nat) "PassportOfficeModel" "blank" "I") ∈ lw_all := lw_g (lw_at lw_m6 31 rfl) rfl
theorem q1305 : (Jvm.Cond.fieldLink "PassportOfficeModel" (91 : Nat) "PassportOfficeModel" "brokenFrom" "I") ∈ lw_all := lw_g (lw_at lw_m6 32 rfl) rfl
theorem q1306 : (Jvm.Cond.fieldLink "PassportOfficeModel" (409 : Nat) "PassportOfficeModel" "brokenTo" "I") ∈ lw_all := lw_g (lw_at lw_m6 33 rfl) rfl
theorem q1307 : (Jvm.Cond.fieldLink "PassportOfficeModel" (94 : Nat) "PassportOfficeModel" "hands" "[I") ∈ lw_all := lw_g (lw_at lw_m6 34 rfl) rfl
theorem q1308 : (Jvm.Cond.fieldLink "PassportOfficeModel" (97 : Nat) "PassportOfficeModel" "lDesk" "[I") ∈ lw_all := lw_g (lw_at lw_m6 35 rfl) rfl
theorem q1309 : (Jvm.Cond.fieldLink "PassportOfficeModel" (100 : Nat) "PassportOfficeModel" "lMany" "[I") ∈ lw_all := lw_g (lw_at lw_m6 36 rfl) rfl
theorem q1310 : (Jvm.Cond.fieldLink "PassportOfficeModel" (103 : Nat) "PassportOfficeModel" "lFrom" "[I") ∈ lw_all := lw_g (lw_at lw_m6 37 rfl) rfl
theorem q1311 : (Jvm.Cond.fieldLink "PassportOfficeModel" (106 : Nat) "PassportOfficeModel" "lTo" "[I") ∈ lw_all := lw_g (lw_at lw_m6 38 rfl) rfl
theorem q1312 : (Jvm.Cond.fieldLink "PassportOfficeModel" (109 : Nat) "PassportOfficeModel" "lTraining" "[I") ∈ lw_all := lw_g (lw_at lw_m6 39 rfl) rfl
theorem q1313 : (Jvm.Cond.fieldLink "PassportOfficeModel" (397 : Nat) "PassportOfficeModel" "lent" "I") ∈ lw_all := lw_g (lw_at lw_m6 40 rfl) rfl
theorem q1314 : (Jvm.Cond.fieldLink "PassportOfficeModel" (112 : Nat) "PassportOfficeModel" "aPerson" "[I") ∈ lw_all := lw_g (lw_at lw_m6 41 rfl) rfl
theorem q1315 : (Jvm.Cond.fieldLink "PassportOfficeModel" (115 : Nat) "PassportOfficeModel" "aKind" "[I") ∈ lw_all := lw_g (lw_at lw_m6 42 rfl) rfl
theorem q1316 : (Jvm.Cond.fieldLink "PassportOfficeModel" (118 : Nat) "PassportOfficeModel" "aCame" "[I") ∈ lw_all := lw_g (lw_at lw_m6 43 rfl) rfl
theorem q1317 : (Jvm.Cond.fieldLink "PassportOfficeModel" (121 : Nat) "PassportOfficeModel" "aWanted" "[I") ∈ lw_all := lw_g (lw_at lw_m6 44 rfl) rfl
theorem q1318 : (Jvm.Cond.fieldLink "PassportOfficeModel" (124 : Nat) "PassportOfficeModel" "aItems" "[I") ∈ lw_all := lw_g (lw_at lw_m6 45 rfl) rfl
theorem q1319 : (Jvm.Cond.fieldLink "PassportOfficeModel" (127 : Nat) "PassportOfficeModel" "aUrgent" "[Z") ∈ lw_all := lw_g (lw_at lw_m6 46 rfl) rfl
theorem q1320 : (Jvm.Cond.fieldLink "PassportOfficeModel" (130 : Nat) "PassportOfficeModel" "aNeeds" "[I") ∈ lw_all := lw_g (lw_at lw_m6 47 rfl) rfl
theorem q1321 : (Jvm.Cond.fieldLink "PassportOfficeModel" (133 : Nat) "PassportOfficeModel" "aFee" "[I") ∈ lw_all := lw_g (lw_at lw_m6 48 rfl) rfl
theorem q1322 : (Jvm.Cond.fieldLink "PassportOfficeModel" (136 : Nat) "PassportOfficeModel" "aYears" "[I") ∈ lw_all := lw_g (lw_at lw_m6 49 rfl) rfl
theorem q1323 : (Jvm.Cond.fieldLink "PassportOfficeModel" (139 : Nat) "PassportOfficeModel" "aRisk" "[I") ∈ lw_all := lw_g (lw_at lw_m6 50 rfl) rfl
theorem q1324 : (Jvm.Cond.fieldLink "PassportOfficeModel" (142 : Nat) "PassportOfficeModel" "aSee" "[Z") ∈ lw_all := lw_g (lw_at lw_m6 51 rfl) rfl
theorem q1325 : (Jvm.Cond.fieldLink "PassportOfficeModel" (145 : Nat) "PassportOfficeModel" "aBack" "[I") ∈ lw_all := lw_g (lw_at lw_m6 52 rfl) rfl
theorem q1326 : (Jvm.Cond.fieldLink "PassportOfficeModel" (148 : Nat) "PassportOfficeModel" "goes" "[I") ∈ lw_all := lw_g (lw_at lw_m6 53 rfl) rfl
theorem q1327 : (Jvm.Cond.fieldLink "PassportOfficeModel" (412 : Nat) "PassportOfficeModel" "askings" "I") ∈ lw_all := lw_g (lw_at lw_m6 54 rfl) rfl
theorem q1328 : (Jvm.Cond.fieldLink "PassportOfficeModel" (151 : Nat) "PassportOfficeModel" "bPerson" "[I") ∈ lw_all := lw_g (lw_at lw_m6 55 rfl) rfl
theorem q1329 : (Jvm.Cond.fieldLink "PassportOfficeModel" (154 : Nat) "PassportOfficeModel" "bFirst" "[I") ∈ lw_all := lw_g (lw_at lw_m6 56 rfl) rfl
theorem q1330 : (Jvm.Cond.fieldLink "PassportOfficeModel" (157 : Nat) "PassportOfficeModel" "bEnd" "[I") ∈ lw_all := lw_g (lw_at lw_m6 57 rfl) rfl
theorem q1331 : (Jvm.Cond.fieldLink "PassportOfficeModel" (160 : Nat) "PassportOfficeModel" "bAsking" "[I") ∈ lw_all := lw_g (lw_at lw_m6 58 rfl) rfl
theorem q1332 : (Jvm.Cond.fieldLink "PassportOfficeModel" (415 : Nat) "PassportOfficeModel" "booklets" "I") ∈ lw_all := lw_g (lw_at lw_m6 59 rfl) rfl
theorem q1333 : (Jvm.Cond.fieldLink "PassportOfficeModel" (428 : Nat) "PassportOfficeModel" "taken" "I") ∈ lw_all := lw_g (lw_at lw_m6 60 rfl) rfl
theorem q1334 : (Jvm.Cond.fieldLink "PassportOfficeModel" (456 : Nat) "PassportOfficeModel" "given" "I") ∈ lw_all := lw_g (lw_at lw_m6 61 rfl) rfl
theorem q1335 : (Jvm.Cond.fieldLink "PassportOfficeModel" (465 : Nat) "PassportOfficeModel" "calls" "I") ∈ lw_all := lw_g (lw_at lw_m6 62 rfl) rfl
theorem q1336 : (Jvm.Cond.fieldLink "PassportOfficeModel" (484 : Nat) "PassportOfficeModel" "allCalls" "I") ∈ lw_all := lw_g (lw_at lw_m6 63 rfl) rfl
theorem q1337 : (Jvm.Cond.fieldLink "PassportOfficeModel" (481 : Nat) "PassportOfficeModel" "left" "I") ∈ lw_all := lw_g (lw_at lw_m6 64 rfl) rfl
theorem q1338 : (Jvm.Cond.fieldLink "PassportOfficeModel" (163 : Nat) "PassportOfficeModel" "row" "[I") ∈ lw_all := lw_g (lw_at lw_m6 65 rfl) rfl
theorem q1339 : (Jvm.Cond.fieldLink "PassportOfficeModel" (447 : Nat) "PassportOfficeModel" "waiting" "I") ∈ lw_all := lw_g (lw_at lw_m6 66 rfl) rfl
theorem q1340 : (Jvm.Cond.fieldLink "PassportOfficeModel" (166 : Nat) "PassportOfficeModel" "keptGoes" "[I") ∈ lw_all := lw_g (lw_at lw_m6 67 rfl) rfl
theorem q1341 : (Jvm.Cond.fieldLink "PassportOfficeModel" (169 : Nat) "PassportOfficeModel" "keptEnd" "[I") ∈ lw_all := lw_g (lw_at lw_m6 68 rfl) rfl
theorem q1342 : (Jvm.Cond.fieldLink "PassportOfficeModel" (172 : Nat) "PassportOfficeModel" "wait" "[I") ∈ lw_all := lw_g (lw_at lw_m6 69 rfl) rfl
theorem q1343 : (Jvm.Cond.fieldLink "PassportOfficeModel" (175 : Nat) "PassportOfficeModel" "lastOnes" "[I") ∈ lw_all := lw_g (lw_at lw_m6 70 rfl) rfl
theorem q1344 : (Jvm.Cond.lays "PassportOfficeModel" "PassportOfficeModel" "thrown" "I") ∈ lw_all := lw_g (lw_at lw_m6 71 rfl) rfl
theorem q1345 : (Jvm.Cond.soleField "PassportOfficeModel" "thrown") ∈ lw_all := lw_g (lw_at lw_m6 72 rfl) rfl
theorem q1346 : (Jvm.Cond.lays "PassportOfficeModel" "PassportOfficeModel" "today" "I") ∈ lw_all := lw_g (lw_at lw_m6 73 rfl) rfl
theorem q1347 : (Jvm.Cond.soleField "PassportOfficeModel" "today") ∈ lw_all := lw_g (lw_at lw_m6 74 rfl) rfl
theorem q1348 : (Jvm.Cond.laysFinal "PassportOfficeModel" "PassportOfficeModel" "tape" "[B") ∈ lw_all := lw_g (lw_at lw_m6 75 rfl) rfl
theorem q1349 : (Jvm.Cond.soleField "PassportOfficeModel" "tape") ∈ lw_all := lw_g (lw_at lw_m6 76 rfl) rfl
theorem q1350 : (Jvm.Cond.lays "PassportOfficeModel" "PassportOfficeModel" "taped" "I") ∈ lw_all := lw_g (lw_at lw_m6 77 rfl) rfl
theorem q1351 : (Jvm.Cond.soleField "PassportOfficeModel" "taped") ∈ lw_all := lw_g (lw_at lw_m6 78 rfl) rfl
theorem q1352 : (Jvm.Cond.lays "PassportOfficeModel" "PassportOfficeModel" "point" "I") ∈ lw_all := lw_g (lw_at lw_m6 79 rfl) rfl
theorem q1353 : (Jvm.Cond.soleField "PassportOfficeModel" "point") ∈ lw_all := lw_g (lw_at lw_m6 80 rfl) rfl
theorem q1354 : (Jvm.Cond.lays "PassportOfficeModel" "PassportOfficeModel" "end" "I") ∈ lw_all := lw_g (lw_at lw_m6 81 rfl) rfl
theorem q1355 : (Jvm.Cond.soleField "PassportOfficeModel" "end") ∈ lw_all := lw_g (lw_at lw_m6 82 rfl) rfl
theorem q1356 : (Jvm.Cond.lays "PassportOfficeModel" "PassportOfficeModel" "begin" "I") ∈ lw_all := lw_g (lw_at lw_m6 83 rfl) rfl
theorem q1357 : (Jvm.Cond.soleField "PassportOfficeModel" "begin") ∈ lw_all := lw_g (lw_at lw_m6 84 rfl) rfl
theorem q1358 : (Jvm.Cond.lays "PassportOfficeModel" "PassportOfficeModel" "deep" "I") ∈ lw_all := lw_g (lw_at lw_m6 85 rfl) rfl
theorem q1359 : (Jvm.Cond.soleField "PassportOfficeModel" "deep") ∈ lw_all := lw_g (lw_at lw_m6 86 rfl) rfl
theorem q1360 : (Jvm.Cond.lays "PassportOfficeModel" "PassportOfficeModel" "faultAt" "I") ∈ lw_all := lw_g (lw_at lw_m6 87 rfl) rfl
theorem q1361 : (Jvm.Cond.soleField "PassportOfficeModel" "faultAt") ∈ lw_all := lw_g (lw_at lw_m6 88 rfl) rfl
theorem q1362 : (Jvm.Cond.laysFinal "PassportOfficeModel" "PassportOfficeModel" "five" "[I") ∈ lw_all := lw_g (lw_at lw_m6 89 rfl) rfl
theorem q1363 : (Jvm.Cond.soleField "PassportOfficeModel" "five") ∈ lw_all := lw_g (lw_at lw_m6 90 rfl) rfl
theorem q1364 : (Jvm.Cond.laysFinal "PassportOfficeModel" "PassportOfficeModel" "lawFrom" "[I") ∈ lw_all := lw_g (lw_at lw_m6 91 rfl) rfl
theorem q1365 : (Jvm.Cond.soleField "PassportOfficeModel" "lawFrom") ∈ lw_all := lw_g (lw_at lw_m6 92 rfl) rfl
theorem q1366 : (Jvm.Cond.laysFinal "PassportOfficeModel" "PassportOfficeModel" "clauses" "[I") ∈ lw_all := lw_g (lw_at lw_m6 93 rfl) rfl
theorem q1367 : (Jvm.Cond.soleField "PassportOfficeModel" "clauses") ∈ lw_all := lw_g (lw_at lw_m6 94 rfl) rfl
theorem q1368 : (Jvm.Cond.laysFinal "PassportOfficeModel" "PassportOfficeModel" "cSort" "[I") ∈ lw_all := lw_g (lw_at lw_m6 95 rfl) rfl
theorem q1369 : (Jvm.Cond.soleField "PassportOfficeModel" "cSort") ∈ lw_all := lw_g (lw_at lw_m6 96 rfl) rfl
theorem q1370 : (Jvm.Cond.laysFinal "PassportOfficeModel" "PassportOfficeModel" "cNumber" "[I") ∈ lw_all := lw_g (lw_at lw_m6 97 rfl) rfl
theorem q1371 : (Jvm.Cond.soleField "PassportOfficeModel" "cNumber") ∈ lw_all := lw_g (lw_at lw_m6 98 rfl) rfl
theorem q1372 : (Jvm.Cond.laysFinal "PassportOfficeModel" "PassportOfficeModel" "cBegin" "[I") ∈ lw_all := lw_g (lw_at lw_m6 99 rfl) rfl
theorem q1373 : (Jvm.Cond.soleField "PassportOfficeModel" "cBegin") ∈ lw_all := lw_g (lw_at lw_m6 100 rfl) rfl
theorem q1374 : (Jvm.Cond.laysFinal "PassportOfficeModel" "PassportOfficeModel" "cEnd" "[I") ∈ lw_all := lw_g (lw_at lw_m6 101 rfl) rfl
theorem q1375 : (Jvm.Cond.soleField "PassportOfficeModel" "cEnd") ∈ lw_all := lw_g (lw_at lw_m6 102 rfl) rfl
theorem q1376 : (Jvm.Cond.laysFinal "PassportOfficeModel" "PassportOfficeModel" "step" "[I") ∈ lw_all := lw_g (lw_at lw_m6 103 rfl) rfl
theorem q1377 : (Jvm.Cond.soleField "PassportOfficeModel" "step") ∈ lw_all := lw_g (lw_at lw_m6 104 rfl) rfl
theorem q1378 : (Jvm.Cond.laysFinal "PassportOfficeModel" "PassportOfficeModel" "how" "[I") ∈ lw_all := lw_g (lw_at lw_m6 105 rfl) rfl
theorem q1379 : (Jvm.Cond.soleField "PassportOfficeModel" "how") ∈ lw_all := lw_g (lw_at lw_m6 106 rfl) rfl
theorem q1380 : (Jvm.Cond.laysFinal "PassportOfficeModel" "PassportOfficeModel" "than" "[I") ∈ lw_all := lw_g (lw_at lw_m6 107 rfl) rfl
theorem q1381 : (Jvm.Cond.soleField "PassportOfficeModel" "than") ∈ lw_all := lw_g (lw_at lw_m6 108 rfl) rfl
theorem q1382 : (Jvm.Cond.lays "PassportOfficeModel" "PassportOfficeModel" "laws" "I") ∈ lw_all := lw_g (lw_at lw_m6 109 rfl) rfl
theorem q1383 : (Jvm.Cond.soleField "PassportOfficeModel" "laws") ∈ lw_all := lw_g (lw_at lw_m6 110 rfl) rfl
theorem q1384 : (Jvm.Cond.lays "PassportOfficeModel" "PassportOfficeModel" "steps" "I") ∈ lw_all := lw_g (lw_at lw_m6 111 rfl) rfl
theorem q1385 : (Jvm.Cond.soleField "PassportOfficeModel" "steps") ∈ lw_all := lw_g (lw_at lw_m6 112 rfl) rfl
theorem q1386 : (Jvm.Cond.laysFinal "PassportOfficeModel" "PassportOfficeModel" "facts" "[I") ∈ lw_all := lw_g (lw_at lw_m6 113 rfl) rfl
theorem q1387 : (Jvm.Cond.soleField "PassportOfficeModel" "facts") ∈ lw_all := lw_g (lw_at lw_m6 114 rfl) rfl
theorem q1388 : (Jvm.Cond.laysFinal "PassportOfficeModel" "PassportOfficeModel" "met" "[Z") ∈ lw_all := lw_g (lw_at lw_m6 115 rfl) rfl
theorem q1389 : (Jvm.Cond.soleField "PassportOfficeModel" "met") ∈ lw_all := lw_g (lw_at lw_m6 116 rfl) rfl
theorem q1390 : (Jvm.Cond.lays "PassportOfficeModel" "PassportOfficeModel" "jNeeds" "I") ∈ lw_all := lw_g (lw_at lw_m6 117 rfl) rfl
theorem q1391 : (Jvm.Cond.soleField "PassportOfficeModel" "jNeeds") ∈ lw_all := lw_g (lw_at lw_m6 118 rfl) rfl
theorem q1392 : (Jvm.Cond.lays "PassportOfficeModel" "PassportOfficeModel" "jFee" "I") ∈ lw_all := lw_g (lw_at lw_m6 119 rfl) rfl
theorem q1393 : (Jvm.Cond.soleField "PassportOfficeModel" "jFee") ∈ lw_all := lw_g (lw_at lw_m6 120 rfl) rfl
theorem q1394 : (Jvm.Cond.lays "PassportOfficeModel" "PassportOfficeModel" "jYears" "I") ∈ lw_all := lw_g (lw_at lw_m6 121 rfl) rfl
theorem q1395 : (Jvm.Cond.soleField "PassportOfficeModel" "jYears") ∈ lw_all := lw_g (lw_at lw_m6 122 rfl) rfl
theorem q1396 : (Jvm.Cond.lays "PassportOfficeModel" "PassportOfficeModel" "jRisk" "I") ∈ lw_all := lw_g (lw_at lw_m6 123 rfl) rfl
theorem q1397 : (Jvm.Cond.soleField "PassportOfficeModel" "jRisk") ∈ lw_all := lw_g (lw_at lw_m6 124 rfl) rfl
theorem q1398 : (Jvm.Cond.lays "PassportOfficeModel" "PassportOfficeModel" "jBack" "I") ∈ lw_all := lw_g (lw_at lw_m6 125 rfl) rfl
theorem q1399 : (Jvm.Cond.soleField "PassportOfficeModel" "jBack") ∈ lw_all := lw_g (lw_at lw_m6 126 rfl) rfl
theorem q1400 : (Jvm.Cond.lays "PassportOfficeModel" "PassportOfficeModel" "jSee" "Z") ∈ lw_all := lw_g (lw_at lw_m6 127 rfl) rfl
theorem q1401 : (Jvm.Cond.soleField "PassportOfficeModel" "jSee") ∈ lw_all := lw_g (lw_at lw_m6 128 rfl) rfl
theorem q1402 : (Jvm.Cond.laysFinal "PassportOfficeModel" "PassportOfficeModel" "born" "[I") ∈ lw_all := lw_g (lw_at lw_m6 129 rfl) rfl
theorem q1403 : (Jvm.Cond.soleField "PassportOfficeModel" "born") ∈ lw_all := lw_g (lw_at lw_m6 130 rfl) rfl
theorem q1404 : (Jvm.Cond.laysFinal "PassportOfficeModel" "PassportOfficeModel" "isAbroad" "[Z") ∈ lw_all := lw_g (lw_at lw_m6 131 rfl) rfl
theorem q1405 : (Jvm.Cond.soleField "PassportOfficeModel" "isAbroad") ∈ lw_all := lw_g (lw_at lw_m6 132 rfl) rfl
theorem q1406 : (Jvm.Cond.laysFinal "PassportOfficeModel" "PassportOfficeModel" "face" "[I") ∈ lw_all := lw_g (lw_at lw_m6 133 rfl) rfl
theorem q1407 : (Jvm.Cond.soleField "PassportOfficeModel" "face") ∈ lw_all := lw_g (lw_at lw_m6 134 rfl) rfl
theorem q1408 : (Jvm.Cond.laysFinal "PassportOfficeModel" "PassportOfficeModel" "turned" "[I") ∈ lw_all := lw_g (lw_at lw_m6 135 rfl) rfl
theorem q1409 : (Jvm.Cond.soleField "PassportOfficeModel" "turned") ∈ lw_all := lw_g (lw_at lw_m6 136 rfl) rfl
theorem q1410 : (Jvm.Cond.laysFinal "PassportOfficeModel" "PassportOfficeModel" "hasName" "[Z") ∈ lw_all := lw_g (lw_at lw_m6 137 rfl) rfl
theorem q1411 : (Jvm.Cond.soleField "PassportOfficeModel" "hasName") ∈ lw_all := lw_g (lw_at lw_m6 138 rfl) rfl
theorem q1412 : (Jvm.Cond.lays "PassportOfficeModel" "PassportOfficeModel" "people" "I") ∈ lw_all := lw_g (lw_at lw_m6 139 rfl) rfl
theorem q1413 : (Jvm.Cond.soleField "PassportOfficeModel" "people") ∈ lw_all := lw_g (lw_at lw_m6 140 rfl) rfl
theorem q1414 : (Jvm.Cond.laysFinal "PassportOfficeModel" "PassportOfficeModel" "told" "[I") ∈ lw_all := lw_g (lw_at lw_m6 141 rfl) rfl
theorem q1415 : (Jvm.Cond.soleField "PassportOfficeModel" "told") ∈ lw_all := lw_g (lw_at lw_m6 142 rfl) rfl
theorem q1416 : (Jvm.Cond.laysFinal "PassportOfficeModel" "PassportOfficeModel" "draftName" "[I") ∈ lw_all := lw_g (lw_at lw_m6 143 rfl) rfl
theorem q1417 : (Jvm.Cond.soleField "PassportOfficeModel" "draftName") ∈ lw_all := lw_g (lw_at lw_m6 144 rfl) rfl
theorem q1418 : (Jvm.Cond.lays "PassportOfficeModel" "PassportOfficeModel" "patience" "I") ∈ lw_all := lw_g (lw_at lw_m6 145 rfl) rfl
theorem q1419 : (Jvm.Cond.soleField "PassportOfficeModel" "patience") ∈ lw_all := lw_g (lw_at lw_m6 146 rfl) rfl
theorem q1420 : (Jvm.Cond.lays "PassportOfficeModel" "PassportOfficeModel" "limit" "I") ∈ lw_all := lw_g (lw_at lw_m6 147 rfl) rfl
theorem q1421 : (Jvm.Cond.soleField "PassportOfficeModel" "limit") ∈ lw_all := lw_g (lw_at lw_m6 148 rfl) rfl
theorem q1422 : (Jvm.Cond.lays "PassportOfficeModel" "PassportOfficeModel" "doubt" "I") ∈ lw_all := lw_g (lw_at lw_m6 149 rfl) rfl
theorem q1423 : (Jvm.Cond.soleField "PassportOfficeModel" "doubt") ∈ lw_all := lw_g (lw_at lw_m6 150 rfl) rfl
theorem q1424 : (Jvm.Cond.lays "PassportOfficeModel" "PassportOfficeModel" "home" "I") ∈ lw_all := lw_g (lw_at lw_m6 151 rfl) rfl
theorem q1425 : (Jvm.Cond.soleField "PassportOfficeModel" "home") ∈ lw_all := lw_g (lw_at lw_m6 152 rfl) rfl
theorem q1426 : (Jvm.Cond.lays "PassportOfficeModel" "PassportOfficeModel" "away" "I") ∈ lw_all := lw_g (lw_at lw_m6 153 rfl) rfl
theorem q1427 : (Jvm.Cond.soleField "PassportOfficeModel" "away") ∈ lw_all := lw_g (lw_at lw_m6 154 rfl) rfl
theorem q1428 : (Jvm.Cond.lays "PassportOfficeModel" "PassportOfficeModel" "rule" "I") ∈ lw_all := lw_g (lw_at lw_m6 155 rfl) rfl
theorem q1429 : (Jvm.Cond.soleField "PassportOfficeModel" "rule") ∈ lw_all := lw_g (lw_at lw_m6 156 rfl) rfl
theorem q1430 : (Jvm.Cond.lays "PassportOfficeModel" "PassportOfficeModel" "blank" "I") ∈ lw_all := lw_g (lw_at lw_m6 157 rfl) rfl
theorem q1431 : (Jvm.Cond.soleField "PassportOfficeModel" "blank") ∈ lw_all := lw_g (lw_at lw_m6 158 rfl) rfl
theorem q1432 : (Jvm.Cond.lays "PassportOfficeModel" "PassportOfficeModel" "brokenFrom" "I") ∈ lw_all := lw_g (lw_at lw_m6 159 rfl) rfl
theorem q1433 : (Jvm.Cond.soleField "PassportOfficeModel" "brokenFrom") ∈ lw_all := lw_g (lw_at lw_m6 160 rfl) rfl
theorem q1434 : (Jvm.Cond.lays "PassportOfficeModel" "PassportOfficeModel" "brokenTo" "I") ∈ lw_all := lw_g (lw_at lw_m6 161 rfl) rfl
theorem q1435 : (Jvm.Cond.soleField "PassportOfficeModel" "brokenTo") ∈ lw_all := lw_g (lw_at lw_m6 162 rfl) rfl
theorem q1436 : (Jvm.Cond.laysFinal "PassportOfficeModel" "PassportOfficeModel" "hands" "[I") ∈ lw_all := lw_g (lw_at lw_m6 163 rfl) rfl
theorem q1437 : (Jvm.Cond.soleField "PassportOfficeModel" "hands") ∈ lw_all := lw_g (lw_at lw_m6 164 rfl) rfl
theorem q1438 : (Jvm.Cond.laysFinal "PassportOfficeModel" "PassportOfficeModel" "lDesk" "[I") ∈ lw_all := lw_g (lw_at lw_m6 165 rfl) rfl
theorem q1439 : (Jvm.Cond.soleField "PassportOfficeModel" "lDesk") ∈ lw_all := lw_g (lw_at lw_m6 166 rfl) rfl
theorem q1440 : (Jvm.Cond.laysFinal "PassportOfficeModel" "PassportOfficeModel" "lMany" "[I") ∈ lw_all := lw_g (lw_at lw_m6 167 rfl) rfl
theorem q1441 : (Jvm.Cond.soleField "PassportOfficeModel" "lMany") ∈ lw_all := lw_g (lw_at lw_m6 168 rfl) rfl
theorem q1442 : (Jvm.Cond.laysFinal "PassportOfficeModel" "PassportOfficeModel" "lFrom" "[I") ∈ lw_all := lw_g (lw_at lw_m6 169 rfl) rfl
theorem q1443 : (Jvm.Cond.soleField "PassportOfficeModel" "lFrom") ∈ lw_all := lw_g (lw_at lw_m6 170 rfl) rfl
theorem q1444 : (Jvm.Cond.laysFinal "PassportOfficeModel" "PassportOfficeModel" "lTo" "[I") ∈ lw_all := lw_g (lw_at lw_m6 171 rfl) rfl
theorem q1445 : (Jvm.Cond.soleField "PassportOfficeModel" "lTo") ∈ lw_all := lw_g (lw_at lw_m6 172 rfl) rfl
theorem q1446 : (Jvm.Cond.laysFinal "PassportOfficeModel" "PassportOfficeModel" "lTraining" "[I") ∈ lw_all := lw_g (lw_at lw_m6 173 rfl) rfl
theorem q1447 : (Jvm.Cond.soleField "PassportOfficeModel" "lTraining") ∈ lw_all := lw_g (lw_at lw_m6 174 rfl) rfl
theorem q1448 : (Jvm.Cond.lays "PassportOfficeModel" "PassportOfficeModel" "lent" "I") ∈ lw_all := lw_g (lw_at lw_m6 175 rfl) rfl
theorem q1449 : (Jvm.Cond.soleField "PassportOfficeModel" "lent") ∈ lw_all := lw_g (lw_at lw_m6 176 rfl) rfl
theorem q1450 : (Jvm.Cond.laysFinal "PassportOfficeModel" "PassportOfficeModel" "aPerson" "[I") ∈ lw_all := lw_g (lw_at lw_m6 177 rfl) rfl
theorem q1451 : (Jvm.Cond.soleField "PassportOfficeModel" "aPerson") ∈ lw_all := lw_g (lw_at lw_m6 178 rfl) rfl
theorem q1452 : (Jvm.Cond.laysFinal "PassportOfficeModel" "PassportOfficeModel" "aKind" "[I") ∈ lw_all := lw_g (lw_at lw_m6 179 rfl) rfl
theorem q1453 : (Jvm.Cond.soleField "PassportOfficeModel" "aKind") ∈ lw_all := lw_g (lw_at lw_m6 180 rfl) rfl
theorem q1454 : (Jvm.Cond.laysFinal "PassportOfficeModel" "PassportOfficeModel" "aCame" "[I") ∈ lw_all := lw_g (lw_at lw_m6 181 rfl) rfl
theorem q1455 : (Jvm.Cond.soleField "PassportOfficeModel" "aCame") ∈ lw_all := lw_g (lw_at lw_m6 182 rfl) rfl
theorem q1456 : (Jvm.Cond.laysFinal "PassportOfficeModel" "PassportOfficeModel" "aWanted" "[I") ∈ lw_all := lw_g (lw_at lw_m6 183 rfl) rfl
theorem q1457 : (Jvm.Cond.soleField "PassportOfficeModel" "aWanted") ∈ lw_all := lw_g (lw_at lw_m6 184 rfl) rfl
theorem q1458 : (Jvm.Cond.laysFinal "PassportOfficeModel" "PassportOfficeModel" "aItems" "[I") ∈ lw_all := lw_g (lw_at lw_m6 185 rfl) rfl
theorem q1459 : (Jvm.Cond.soleField "PassportOfficeModel" "aItems") ∈ lw_all := lw_g (lw_at lw_m6 186 rfl) rfl
theorem q1460 : (Jvm.Cond.laysFinal "PassportOfficeModel" "PassportOfficeModel" "aUrgent" "[Z") ∈ lw_all := lw_g (lw_at lw_m6 187 rfl) rfl
theorem q1461 : (Jvm.Cond.soleField "PassportOfficeModel" "aUrgent") ∈ lw_all := lw_g (lw_at lw_m6 188 rfl) rfl
theorem q1462 : (Jvm.Cond.laysFinal "PassportOfficeModel" "PassportOfficeModel" "aNeeds" "[I") ∈ lw_all := lw_g (lw_at lw_m6 189 rfl) rfl
theorem q1463 : (Jvm.Cond.soleField "PassportOfficeModel" "aNeeds") ∈ lw_all := lw_g (lw_at lw_m6 190 rfl) rfl
theorem q1464 : (Jvm.Cond.laysFinal "PassportOfficeModel" "PassportOfficeModel" "aFee" "[I") ∈ lw_all := lw_g (lw_at lw_m6 191 rfl) rfl
theorem q1465 : (Jvm.Cond.soleField "PassportOfficeModel" "aFee") ∈ lw_all := lw_g (lw_at lw_m6 192 rfl) rfl
theorem q1466 : (Jvm.Cond.laysFinal "PassportOfficeModel" "PassportOfficeModel" "aYears" "[I") ∈ lw_all := lw_g (lw_at lw_m6 193 rfl) rfl
theorem q1467 : (Jvm.Cond.soleField "PassportOfficeModel" "aYears") ∈ lw_all := lw_g (lw_at lw_m6 194 rfl) rfl
theorem q1468 : (Jvm.Cond.laysFinal "PassportOfficeModel" "PassportOfficeModel" "aRisk" "[I") ∈ lw_all := lw_g (lw_at lw_m6 195 rfl) rfl
theorem q1469 : (Jvm.Cond.soleField "PassportOfficeModel" "aRisk") ∈ lw_all := lw_g (lw_at lw_m6 196 rfl) rfl
theorem q1470 : (Jvm.Cond.laysFinal "PassportOfficeModel" "PassportOfficeModel" "aSee" "[Z") ∈ lw_all := lw_g (lw_at lw_m6 197 rfl) rfl
theorem q1471 : (Jvm.Cond.soleField "PassportOfficeModel" "aSee") ∈ lw_all := lw_g (lw_at lw_m6 198 rfl) rfl
theorem q1472 : (Jvm.Cond.laysFinal "PassportOfficeModel" "PassportOfficeModel" "aBack" "[I") ∈ lw_all := lw_g (lw_at lw_m6 199 rfl) rfl
theorem q1473 : (Jvm.Cond.soleField "PassportOfficeModel" "aBack") ∈ lw_all := lw_g (lw_at lw_m6 200 rfl) rfl
theorem q1474 : (Jvm.Cond.laysFinal "PassportOfficeModel" "PassportOfficeModel" "goes" "[I") ∈ lw_all := lw_g (lw_at lw_m6 201 rfl) rfl
theorem q1475 : (Jvm.Cond.soleField "PassportOfficeModel" "goes") ∈ lw_all := lw_g (lw_at lw_m6 202 rfl) rfl
theorem q1476 : (Jvm.Cond.lays "PassportOfficeModel" "PassportOfficeModel" "askings" "I") ∈ lw_all := lw_g (lw_at lw_m6 203 rfl) rfl
theorem q1477 : (Jvm.Cond.soleField "PassportOfficeModel" "askings") ∈ lw_all := lw_g (lw_at lw_m6 204 rfl) rfl
theorem q1478 : (Jvm.Cond.laysFinal "PassportOfficeModel" "PassportOfficeModel" "bPerson" "[I") ∈ lw_all := lw_g (lw_at lw_m6 205 rfl) rfl
theorem q1479 : (Jvm.Cond.soleField "PassportOfficeModel" "bPerson") ∈ lw_all := lw_g (lw_at lw_m6 206 rfl) rfl
theorem q1480 : (Jvm.Cond.laysFinal "PassportOfficeModel" "PassportOfficeModel" "bFirst" "[I") ∈ lw_all := lw_g (lw_at lw_m6 207 rfl) rfl
theorem q1481 : (Jvm.Cond.soleField "PassportOfficeModel" "bFirst") ∈ lw_all := lw_g (lw_at lw_m6 208 rfl) rfl
theorem q1482 : (Jvm.Cond.laysFinal "PassportOfficeModel" "PassportOfficeModel" "bEnd" "[I") ∈ lw_all := lw_g (lw_at lw_m6 209 rfl) rfl
theorem q1483 : (Jvm.Cond.soleField "PassportOfficeModel" "bEnd") ∈ lw_all := lw_g (lw_at lw_m6 210 rfl) rfl
theorem q1484 : (Jvm.Cond.laysFinal "PassportOfficeModel" "PassportOfficeModel" "bAsking" "[I") ∈ lw_all := lw_g (lw_at lw_m6 211 rfl) rfl
theorem q1485 : (Jvm.Cond.soleField "PassportOfficeModel" "bAsking") ∈ lw_all := lw_g (lw_at lw_m6 212 rfl) rfl
theorem q1486 : (Jvm.Cond.lays "PassportOfficeModel" "PassportOfficeModel" "booklets" "I") ∈ lw_all := lw_g (lw_at lw_m6 213 rfl) rfl
theorem q1487 : (Jvm.Cond.soleField "PassportOfficeModel" "booklets") ∈ lw_all := lw_g (lw_at lw_m6 214 rfl) rfl
theorem q1488 : (Jvm.Cond.lays "PassportOfficeModel" "PassportOfficeModel" "taken" "I") ∈ lw_all := lw_g (lw_at lw_m6 215 rfl) rfl
theorem q1489 : (Jvm.Cond.soleField "PassportOfficeModel" "taken") ∈ lw_all := lw_g (lw_at lw_m6 216 rfl) rfl
theorem q1490 : (Jvm.Cond.lays "PassportOfficeModel" "PassportOfficeModel" "given" "I") ∈ lw_all := lw_g (lw_at lw_m6 217 rfl) rfl
theorem q1491 : (Jvm.Cond.soleField "PassportOfficeModel" "given") ∈ lw_all := lw_g (lw_at lw_m6 218 rfl) rfl
theorem q1492 : (Jvm.Cond.lays "PassportOfficeModel" "PassportOfficeModel" "calls" "I") ∈ lw_all := lw_g (lw_at lw_m6 219 rfl) rfl
theorem q1493 : (Jvm.Cond.soleField "PassportOfficeModel" "calls") ∈ lw_all := lw_g (lw_at lw_m6 220 rfl) rfl
theorem q1494 : (Jvm.Cond.lays "PassportOfficeModel" "PassportOfficeModel" "allCalls" "I") ∈ lw_all := lw_g (lw_at lw_m6 221 rfl) rfl
theorem q1495 : (Jvm.Cond.soleField "PassportOfficeModel" "allCalls") ∈ lw_all := lw_g (lw_at lw_m6 222 rfl) rfl
theorem q1496 : (Jvm.Cond.lays "PassportOfficeModel" "PassportOfficeModel" "left" "I") ∈ lw_all := lw_g (lw_at lw_m6 223 rfl) rfl
theorem q1497 : (Jvm.Cond.soleField "PassportOfficeModel" "left") ∈ lw_all := lw_g (lw_at lw_m6 224 rfl) rfl
theorem q1498 : (Jvm.Cond.laysFinal "PassportOfficeModel" "PassportOfficeModel" "row" "[I") ∈ lw_all := lw_g (lw_at lw_m6 225 rfl) rfl
theorem q1499 : (Jvm.Cond.soleField "PassportOfficeModel" "row") ∈ lw_all := lw_g (lw_at lw_m6 226 rfl) rfl
theorem q1500 : (Jvm.Cond.lays "PassportOfficeModel" "PassportOfficeModel" "waiting" "I") ∈ lw_all := lw_g (lw_at lw_m6 227 rfl) rfl
theorem q1501 : (Jvm.Cond.soleField "PassportOfficeModel" "waiting") ∈ lw_all := lw_g (lw_at lw_m6 228 rfl) rfl
theorem q1502 : (Jvm.Cond.laysFinal "PassportOfficeModel" "PassportOfficeModel" "keptGoes" "[I") ∈ lw_all := lw_g (lw_at lw_m6 229 rfl) rfl
theorem q1503 : (Jvm.Cond.soleField "PassportOfficeModel" "keptGoes") ∈ lw_all := lw_g (lw_at lw_m6 230 rfl) rfl
theorem q1504 : (Jvm.Cond.laysFinal "PassportOfficeModel" "PassportOfficeModel" "keptEnd" "[I") ∈ lw_all := lw_g (lw_at lw_m6 231 rfl) rfl
theorem q1505 : (Jvm.Cond.soleField "PassportOfficeModel" "keptEnd") ∈ lw_all := lw_g (lw_at lw_m6 232 rfl) rfl
theorem q1506 : (Jvm.Cond.laysFinal "PassportOfficeModel" "PassportOfficeModel" "wait" "[I") ∈ lw_all := lw_g (lw_at lw_m6 233 rfl) rfl
theorem q1507 : (Jvm.Cond.soleField "PassportOfficeModel" "wait") ∈ lw_all := lw_g (lw_at lw_m6 234 rfl) rfl
theorem q1508 : (Jvm.Cond.laysFinal "PassportOfficeModel" "PassportOfficeModel" "lastOnes" "[I") ∈ lw_all := lw_g (lw_at lw_m6 235 rfl) rfl
theorem q1509 : (Jvm.Cond.soleField "PassportOfficeModel" "lastOnes") ∈ lw_all := lw_g (lw_at lw_m6 236 rfl) rfl
theorem q1510 : (Jvm.Cond.superclass "PassportOfficeModel" "java/lang/Object") ∈ lw_all := lw_g (lw_at lw_m6 237 rfl) rfl
theorem q1513 : (Jvm.Cond.instanceMethod ({ cls := "PassportOfficeModel", name := "thrown", desc := "()I" } : Jvm.MethodName)) ∈ lw_all := lw_g (lw_at lw_m7 0 rfl) rfl
theorem q1514 : (Jvm.Cond.selects "PassportOfficeModel" ({ cls := "PassportOfficeModel", name := "thrown", desc := "()I" } : Jvm.MethodName) ({ cls := "PassportOfficeModel", name := "thrown", desc := "()I" } : Jvm.MethodName)) ∈ lw_all := lw_g (lw_at lw_m7 1 rfl) rfl
theorem q1515 : (Jvm.Cond.code ({ cls := "PassportOfficeModel", name := "thrown", desc := "()I" } : Jvm.MethodName) prog_18_method_2_code (1 : Nat) (Option.some Jvm.ClassFile.FieldType.int)) ∈ lw_all := lw_g (lw_at lw_m7 2 rfl) rfl
theorem q1517 : (Jvm.Cond.instanceMethod ({ cls := "PassportOfficeModel", name := "feed", desc := "(IIIII)I" } : Jvm.MethodName)) ∈ lw_all := lw_g (lw_at lw_m7 4 rfl) rfl
theorem q1518 : (Jvm.Cond.selects "PassportOfficeModel" ({ cls := "PassportOfficeModel", name := "feed", desc := "(IIIII)I" } : Jvm.MethodName) ({ cls := "PassportOfficeModel", name := "feed", desc := "(IIIII)I" } : Jvm.MethodName)) ∈ lw_all := lw_g (lw_at lw_m7 5 rfl) rfl
theorem q1519 : (Jvm.Cond.code ({ cls := "PassportOfficeModel", name := "feed", desc := "(IIIII)I" } : Jvm.MethodName) prog_18_method_5_code (7 : Nat) (Option.some Jvm.ClassFile.FieldType.int)) ∈ lw_all := lw_g (lw_at lw_m7 6 rfl) rfl
theorem q1521 : (Jvm.Cond.instanceMethod ({ cls := "PassportOfficeModel", name := "end", desc := "(I)Z" } : Jvm.MethodName)) ∈ lw_all := lw_g (lw_at lw_m7 8 rfl) rfl
theorem q1522 : (Jvm.Cond.selects "PassportOfficeModel" ({ cls := "PassportOfficeModel", name := "end", desc := "(I)Z" } : Jvm.MethodName) ({ cls := "PassportOfficeModel", name := "end", desc := "(I)Z" } : Jvm.MethodName)) ∈ lw_all := lw_g (lw_at lw_m7 9 rfl) rfl
theorem q1523 : (Jvm.Cond.code ({ cls := "PassportOfficeModel", name := "end", desc := "(I)Z" } : Jvm.MethodName) prog_18_method_6_code (2 : Nat) (Option.some Jvm.ClassFile.FieldType.boolean)) ∈ lw_all := lw_g (lw_at lw_m7 10 rfl) rfl
theorem q1525 : (Jvm.Cond.instanceMethod ({ cls := "PassportOfficeModel", name := "fault", desc := "()I" } : Jvm.MethodName)) ∈ lw_all := lw_g (lw_at lw_m7 12 rfl) rfl
theorem q1526 : (Jvm.Cond.selects "PassportOfficeModel" ({ cls := "PassportOfficeModel", name := "fault", desc := "()I" } : Jvm.MethodName) ({ cls := "PassportOfficeModel", name := "fault", desc := "()I" } : Jvm.MethodName)) ∈ lw_all := lw_g (lw_at lw_m7 13 rfl) rfl
theorem q1527 : (Jvm.Cond.code ({ cls := "PassportOfficeModel", name := "fault", desc := "()I" } : Jvm.MethodName) prog_18_method_15_code (1 : Nat) (Option.some Jvm.ClassFile.FieldType.int)) ∈ lw_all := lw_g (lw_at lw_m7 14 rfl) rfl
theorem q1529 : (Jvm.Cond.instanceMethod ({ cls := "PassportOfficeModel", name := "law", desc := "(I)I" } : Jvm.MethodName)) ∈ lw_all := lw_g (lw_at lw_m7 16 rfl) rfl
theorem q1530 : (Jvm.Cond.selects "PassportOfficeModel" ({ cls := "PassportOfficeModel", name := "law", desc := "(I)I" } : Jvm.MethodName) ({ cls := "PassportOfficeModel", name := "law", desc := "(I)I" } : Jvm.MethodName)) ∈ lw_all := lw_g (lw_at lw_m7 17 rfl) rfl
theorem q1531 : (Jvm.Cond.code ({ cls := "PassportOfficeModel", name := "law", desc := "(I)I" } : Jvm.MethodName) prog_18_method_24_code (4 : Nat) (Option.some Jvm.ClassFile.FieldType.int)) ∈ lw_all := lw_g (lw_at lw_m7 18 rfl) rfl
theorem q1532 : (Jvm.Cond.methodLink "PassportOfficeModel" (311 : Nat) ({ cls := "PassportOfficeModel", name := "uses", desc := "()V" } : Jvm.MethodName)) ∈ lw_all := lw_g (lw_at lw_m7 19 rfl) rfl
theorem q1533 : (Jvm.Cond.privateMethod ({ cls := "PassportOfficeModel", name := "uses", desc := "()V" } : Jvm.MethodName)) ∈ lw_tbl := lw_at lw_m7 20 rfl
theorem q1534 : (Jvm.Cond.instanceMethod ({ cls := "PassportOfficeModel", name := "uses", desc := "()V" } : Jvm.MethodName)) ∈ lw_all := lw_g (lw_at lw_m7 21 rfl) rfl
theorem q1535 : (Jvm.Cond.code ({ cls := "PassportOfficeModel", name := "uses", desc := "()V" } : Jvm.MethodName) prog_18_method_7_code (1 : Nat) (Option.none : Option Jvm.ClassFile.FieldType)) ∈ lw_all := lw_g (lw_at lw_m7 22 rfl) rfl
theorem q1536 : (Jvm.Cond.methodLink "PassportOfficeModel" (317 : Nat) ({ cls := "PassportOfficeModel", name := "in", desc := "(III)Z" } : Jvm.MethodName)) ∈ lw_all := lw_g (lw_at lw_m7 23 rfl) rfl
theorem q1537 : (Jvm.Cond.static ({ cls := "PassportOfficeModel", name := "in", desc := "(III)Z" } : Jvm.MethodName)) ∈ lw_all := lw_g (lw_at lw_m7 24 rfl) rfl
theorem q1538 : (Jvm.Cond.code ({ cls := "PassportOfficeModel", name := "in", desc := "(III)Z" } : Jvm.MethodName) prog_18_method_4_code (3 : Nat) (Option.some Jvm.ClassFile.FieldType.boolean)) ∈ lw_all := lw_g (lw_at lw_m7 25 rfl) rfl
theorem q1539 : (Jvm.Cond.methodLink "PassportOfficeModel" (321 : Nat) ({ cls := "PassportOfficeModel", name := "throwsIf", desc := "(ZI)Z" } : Jvm.MethodName)) ∈ lw_all := lw_g (lw_at lw_m7 26 rfl) rfl
theorem q1540 : (Jvm.Cond.privateMethod ({ cls := "PassportOfficeModel", name := "throwsIf", desc := "(ZI)Z" } : Jvm.MethodName)) ∈ lw_tbl := lw_at lw_m7 27 rfl
theorem q1541 : (Jvm.Cond.instanceMethod ({ cls := "PassportOfficeModel", name := "throwsIf", desc := "(ZI)Z" } : Jvm.MethodName)) ∈ lw_all := lw_g (lw_at lw_m7 28 rfl) rfl
theorem q1542 : (Jvm.Cond.code ({ cls := "PassportOfficeModel", name := "throwsIf", desc := "(ZI)Z" } : Jvm.MethodName) prog_18_method_3_code (3 : Nat) (Option.some Jvm.ClassFile.FieldType.boolean)) ∈ lw_all := lw_g (lw_at lw_m7 29 rfl) rfl
theorem q1543 : (Jvm.Cond.methodLink "PassportOfficeModel" (325 : Nat) ({ cls := "PassportOfficeModel", name := "readLaw", desc := "()I" } : Jvm.MethodName)) ∈ lw_all := lw_g (lw_at lw_m7 30 rfl) rfl
theorem q1544 : (Jvm.Cond.privateMethod ({ cls := "PassportOfficeModel", name := "readLaw", desc := "()I" } : Jvm.MethodName)) ∈ lw_tbl := lw_at lw_m7 31 rfl
theorem q1545 : (Jvm.Cond.instanceMethod ({ cls := "PassportOfficeModel", name := "readLaw", desc := "()I" } : Jvm.MethodName)) ∈ lw_all := lw_g (lw_at lw_m7 32 rfl) rfl
theorem q1546 : (Jvm.Cond.code ({ cls := "PassportOfficeModel", name := "readLaw", desc := "()I" } : Jvm.MethodName) prog_18_method_23_code (2 : Nat) (Option.some Jvm.ClassFile.FieldType.int)) ∈ lw_all := lw_g (lw_at lw_m7 33 rfl) rfl
theorem q1547 : (Jvm.Cond.methodLink "PassportOfficeModel" (197 : Nat) ({ cls := "PassportOfficeModel", name := "blanksBetween", desc := "()V" } : Jvm.MethodName)) ∈ lw_all := lw_g (lw_at lw_m7 34 rfl) rfl
theorem q1548 : (Jvm.Cond.privateMethod ({ cls := "PassportOfficeModel", name := "blanksBetween", desc := "()V" } : Jvm.MethodName)) ∈ lw_tbl := lw_at lw_m7 35 rfl
theorem q1549 : (Jvm.Cond.instanceMethod ({ cls := "PassportOfficeModel", name := "blanksBetween", desc := "()V" } : Jvm.MethodName)) ∈ lw_all := lw_g (lw_at lw_m7 36 rfl) rfl
theorem q1550 : (Jvm.Cond.code ({ cls := "PassportOfficeModel", name := "blanksBetween", desc := "()V" } : Jvm.MethodName) prog_18_method_9_code (1 : Nat) (Option.none : Option Jvm.ClassFile.FieldType)) ∈ lw_all := lw_g (lw_at lw_m7 37 rfl) rfl
theorem q1551 : (Jvm.Cond.methodLink "PassportOfficeModel" (190 : Nat) ({ cls := "PassportOfficeModel", name := "isAt", desc := "(II)Z" } : Jvm.MethodName)) ∈ lw_all := lw_g (lw_at lw_m7 38 rfl) rfl
theorem q1552 : (Jvm.Cond.privateMethod ({ cls := "PassportOfficeModel", name := "isAt", desc := "(II)Z" } : Jvm.MethodName)) ∈ lw_tbl := lw_at lw_m7 39 rfl
theorem q1553 : (Jvm.Cond.instanceMethod ({ cls := "PassportOfficeModel", name := "isAt", desc := "(II)Z" } : Jvm.MethodName)) ∈ lw_all := lw_g (lw_at lw_m7 40 rfl) rfl
theorem q1554 : (Jvm.Cond.code ({ cls := "PassportOfficeModel", name := "isAt", desc := "(II)Z" } : Jvm.MethodName) prog_18_method_8_code (3 : Nat) (Option.some Jvm.ClassFile.FieldType.boolean)) ∈ lw_all := lw_g (lw_at lw_m7 41 rfl) rfl
theorem q1555 : (Jvm.Cond.methodLink "PassportOfficeModel" (308 : Nat) ({ cls := "PassportOfficeModel", name := "readClause", desc := "(I)Z" } : Jvm.MethodName)) ∈ lw_all := lw_g (lw_at lw_m7 42 rfl) rfl
theorem q1556 : (Jvm.Cond.privateMethod ({ cls := "PassportOfficeModel", name := "readClause", desc := "(I)Z" } : Jvm.MethodName)) ∈ lw_tbl := lw_at lw_m7 43 rfl
theorem q1557 : (Jvm.Cond.instanceMethod ({ cls := "PassportOfficeModel", name := "readClause", desc := "(I)Z" } : Jvm.MethodName)) ∈ lw_all := lw_g (lw_at lw_m7 44 rfl) rfl
theorem q1558 : (Jvm.Cond.code ({ cls := "PassportOfficeModel", name := "readClause", desc := "(I)Z" } : Jvm.MethodName) prog_18_method_22_code (4 : Nat) (Option.some Jvm.ClassFile.FieldType.boolean)) ∈ lw_all := lw_g (lw_at lw_m7 45 rfl) rfl
theorem q1559 : (Jvm.Cond.methodLink "PassportOfficeModel" (210 : Nat) ({ cls := "PassportOfficeModel", name := "word", desc := "()V" } : Jvm.MethodName)) ∈ lw_all := lw_g (lw_at lw_m7 46 rfl) rfl
theorem q1560 : (Jvm.Cond.privateMethod ({ cls := "PassportOfficeModel", name := "word", desc := "()V" } : Jvm.MethodName)) ∈ lw_tbl := lw_at lw_m7 47 rfl
theorem q1561 : (Jvm.Cond.instanceMethod ({ cls := "PassportOfficeModel", name := "word", desc := "()V" } : Jvm.MethodName)) ∈ lw_all := lw_g (lw_at lw_m7 48 rfl) rfl
theorem q1562 : (Jvm.Cond.code ({ cls := "PassportOfficeModel", name := "word", desc := "()V" } : Jvm.MethodName) prog_18_method_10_code (1 : Nat) (Option.none : Option Jvm.ClassFile.FieldType)) ∈ lw_all := lw_g (lw_at lw_m7 49 rfl) rfl
theorem q1563 : (Jvm.Cond.stringRef "PassportOfficeModel" (291 : Nat) "need") ∈ lw_tbl := lw_at lw_m7 50 rfl
theorem q1564 : (Jvm.Cond.methodLink "PassportOfficeModel" (213 : Nat) ({ cls := "PassportOfficeModel", name := "isWord", desc := "(Ljava/lang/String;)Z" } : Jvm.MethodName)) ∈ lw_all := lw_g (lw_at lw_m7 51 rfl) rfl
theorem q1565 : (Jvm.Cond.privateMethod ({ cls := "PassportOfficeModel", name := "isWord", desc := "(Ljava/lang/String;)Z" } : Jvm.MethodName)) ∈ lw_tbl := lw_at lw_m7 52 rfl
theorem q1566 : (Jvm.Cond.instanceMethod ({ cls := "PassportOfficeModel", name := "isWord", desc := "(Ljava/lang/String;)Z" } : Jvm.MethodName)) ∈ lw_all := lw_g (lw_at lw_m7 53 rfl) rfl
theorem q1567 : (Jvm.Cond.code ({ cls := "PassportOfficeModel", name := "isWord", desc := "(Ljava/lang/String;)Z" } : Jvm.MethodName) prog_18_method_11_code (4 : Nat) (Option.some Jvm.ClassFile.FieldType.boolean)) ∈ lw_all := lw_g (lw_at lw_m7 54 rfl) rfl
theorem q1568 : (Jvm.Cond.methodLink "PassportOfficeModel" (200 : Nat) ({ cls := "java/lang/String", name := "length", desc := "()I" } : Jvm.MethodName)) ∈ lw_all := lw_g (lw_at lw_m7 55 rfl) rfl
theorem q1569 : (Jvm.Cond.methodLink "PassportOfficeModel" (206 : Nat) ({ cls := "java/lang/String", name := "charAt", desc := "(I)C" } : Jvm.MethodName)) ∈ lw_all := lw_g (lw_at lw_m7 56 rfl) rfl
theorem q1570 : (Jvm.Cond.stringRef "PassportOfficeModel" (293 : Nat) "fee") ∈ lw_tbl := lw_at lw_m7 57 rfl
theorem q1571 : (Jvm.Cond.stringRef "PassportOfficeModel" (295 : Nat) "years") ∈ lw_tbl := lw_at lw_m7 58 rfl
theorem q1572 : (Jvm.Cond.stringRef "PassportOfficeModel" (297 : Nat) "risk") ∈ lw_tbl := lw_at lw_m7 59 rfl
theorem q1573 : (Jvm.Cond.stringRef "PassportOfficeModel" (299 : Nat) "see") ∈ lw_tbl := lw_at lw_m7 60 rfl
theorem q1574 : (Jvm.Cond.stringRef "PassportOfficeModel" (301 : Nat) "back") ∈ lw_tbl := lw_at lw_m7 61 rfl
theorem q1575 : (Jvm.Cond.methodLink "PassportOfficeModel" (303 : Nat) ({ cls := "PassportOfficeModel", name := "item", desc := "(I)Ljava/lang/String;" } : Jvm.MethodName)) ∈ lw_all := lw_g (lw_at lw_m7 62 rfl) rfl
theorem q1576 : (Jvm.Cond.static ({ cls := "PassportOfficeModel", name := "item", desc := "(I)Ljava/lang/String;" } : Jvm.MethodName)) ∈ lw_all := lw_g (lw_at lw_m7 63 rfl) rfl
theorem q1577 : (Jvm.Cond.code ({ cls := "PassportOfficeModel", name := "item", desc := "(I)Ljava/lang/String;" } : Jvm.MethodName) prog_18_method_18_code (1 : Nat) (Option.some (Jvm.ClassFile.FieldType.object "java/lang/String"))) ∈ lw_all := lw_g (lw_at lw_m7 64 rfl) rfl
theorem q1578 : (Jvm.Cond.stringRef "PassportOfficeModel" (238 : Nat) "deed") ∈ lw_tbl := lw_at lw_m7 65 rfl
theorem q1579 : (Jvm.Cond.stringRef "PassportOfficeModel" (240 : Nat) "photo") ∈ lw_tbl := lw_at lw_m7 66 rfl
theorem q1580 : (Jvm.Cond.stringRef "PassportOfficeModel" (242 : Nat) "consent") ∈ lw_tbl := lw_at lw_m7 67 rfl
theorem q1581 : (Jvm.Cond.stringRef "PassportOfficeModel" (244 : Nat) "both") ∈ lw_tbl := lw_at lw_m7 68 rfl
theorem q1582 : (Jvm.Cond.stringRef "PassportOfficeModel" (246 : Nat) "oldbook") ∈ lw_tbl := lw_at lw_m7 69 rfl
theorem q1583 : (Jvm.Cond.stringRef "PassportOfficeModel" (248 : Nat) "report") ∈ lw_tbl := lw_at lw_m7 70 rfl
theorem q1584 : (Jvm.Cond.stringRef "PassportOfficeModel" (250 : Nat) "ticket") ∈ lw_tbl := lw_at lw_m7 71 rfl
theorem q1585 : (Jvm.Cond.stringRef "PassportOfficeModel" (252 : Nat) "change") ∈ lw_tbl := lw_at lw_m7 72 rfl
theorem q1586 : (Jvm.Cond.methodLink "PassportOfficeModel" (281 : Nat) ({ cls := "PassportOfficeModel", name := "number", desc := "()I" } : Jvm.MethodName)) ∈ lw_all := lw_g (lw_at lw_m7 73 rfl) rfl
theorem q1587 : (Jvm.Cond.privateMethod ({ cls := "PassportOfficeModel", name := "number", desc := "()I" } : Jvm.MethodName)) ∈ lw_tbl := lw_at lw_m7 74 rfl
theorem q1588 : (Jvm.Cond.instanceMethod ({ cls := "PassportOfficeModel", name := "number", desc := "()I" } : Jvm.MethodName)) ∈ lw_all := lw_g (lw_at lw_m7 75 rfl) rfl
theorem q1589 : (Jvm.Cond.code ({ cls := "PassportOfficeModel", name := "number", desc := "()I" } : Jvm.MethodName) prog_18_method_14_code (2 : Nat) (Option.some Jvm.ClassFile.FieldType.int)) ∈ lw_all := lw_g (lw_at lw_m7 76 rfl) rfl
theorem q1590 : (Jvm.Cond.stringRef "PassportOfficeModel" (306 : Nat) "if") ∈ lw_tbl := lw_at lw_m7 77 rfl
theorem q1591 : (Jvm.Cond.methodLink "PassportOfficeModel" (267 : Nat) ({ cls := "PassportOfficeModel", name := "passes", desc := "(Ljava/lang/String;)Z" } : Jvm.MethodName)) ∈ lw_all := lw_g (lw_at lw_m7 78 rfl) rfl
theorem q1592 : (Jvm.Cond.privateMethod ({ cls := "PassportOfficeModel", name := "passes", desc := "(Ljava/lang/String;)Z" } : Jvm.MethodName)) ∈ lw_tbl := lw_at lw_m7 79 rfl
theorem q1593 : (Jvm.Cond.instanceMethod ({ cls := "PassportOfficeModel", name := "passes", desc := "(Ljava/lang/String;)Z" } : Jvm.MethodName)) ∈ lw_all := lw_g (lw_at lw_m7 80 rfl) rfl
theorem q1594 : (Jvm.Cond.code ({ cls := "PassportOfficeModel", name := "passes", desc := "(Ljava/lang/String;)Z" } : Jvm.MethodName) prog_18_method_12_code (2 : Nat) (Option.some Jvm.ClassFile.FieldType.boolean)) ∈ lw_all := lw_g (lw_at lw_m7 81 rfl) rfl
theorem q1595 : (Jvm.Cond.methodLink "PassportOfficeModel" (261 : Nat) ({ cls := "PassportOfficeModel", name := "readCond", desc := "()Z" } : Jvm.MethodName)) ∈ lw_all := lw_g (lw_at lw_m7 82 rfl) rfl
theorem q1596 : (Jvm.Cond.privateMethod ({ cls := "PassportOfficeModel", name := "readCond", desc := "()Z" } : Jvm.MethodName)) ∈ lw_tbl := lw_at lw_m7 83 rfl
theorem q1597 : (Jvm.Cond.instanceMethod ({ cls := "PassportOfficeModel", name := "readCond", desc := "()Z" } : Jvm.MethodName)) ∈ lw_all := lw_g (lw_at lw_m7 84 rfl) rfl
theorem q1598 : (Jvm.Cond.code ({ cls := "PassportOfficeModel", name := "readCond", desc := "()Z" } : Jvm.MethodName) prog_18_method_21_code (1 : Nat) (Option.some Jvm.ClassFile.FieldType.boolean)) ∈ lw_all := lw_g (lw_at lw_m7 85 rfl) rfl
theorem q1599 : (Jvm.Cond.methodLink "PassportOfficeModel" (286 : Nat) ({ cls := "PassportOfficeModel", name := "readAllOf", desc := "()Z" } : Jvm.MethodName)) ∈ lw_all := lw_g (lw_at lw_m7 86 rfl) rfl
theorem q1600 : (Jvm.Cond.privateMethod ({ cls := "PassportOfficeModel", name := "readAllOf", desc := "()Z" } : Jvm.MethodName)) ∈ lw_tbl := lw_at lw_m7 87 rfl
theorem q1601 : (Jvm.Cond.instanceMethod ({ cls := "PassportOfficeModel", name := "readAllOf", desc := "()Z" } : Jvm.MethodName)) ∈ lw_all := lw_g (lw_at lw_m7 88 rfl) rfl
theorem q1602 : (Jvm.Cond.code ({ cls := "PassportOfficeModel", name := "readAllOf", desc := "()Z" } : Jvm.MethodName) prog_18_method_20_code (1 : Nat) (Option.some Jvm.ClassFile.FieldType.boolean)) ∈ lw_all := lw_g (lw_at lw_m7 89 rfl) rfl
theorem q1603 : (Jvm.Cond.methodLink "PassportOfficeModel" (270 : Nat) ({ cls := "PassportOfficeModel", name := "readAtom", desc := "()Z" } : Jvm.MethodName)) ∈ lw_all := lw_g (lw_at lw_m7 90 rfl) rfl
theorem q1604 : (Jvm.Cond.privateMethod ({ cls := "PassportOfficeModel", name := "readAtom", desc := "()Z" } : Jvm.MethodName)) ∈ lw_tbl := lw_at lw_m7 91 rfl
theorem q1605 : (Jvm.Cond.instanceMethod ({ cls := "PassportOfficeModel", name := "readAtom", desc := "()Z" } : Jvm.MethodName)) ∈ lw_all := lw_g (lw_at lw_m7 92 rfl) rfl
theorem q1606 : (Jvm.Cond.code ({ cls := "PassportOfficeModel", name := "readAtom", desc := "()Z" } : Jvm.MethodName) prog_18_method_19_code (4 : Nat) (Option.some Jvm.ClassFile.FieldType.boolean)) ∈ lw_all := lw_g (lw_at lw_m7 93 rfl) rfl
theorem q1607 : (Jvm.Cond.methodLink "PassportOfficeModel" (254 : Nat) ({ cls := "PassportOfficeModel", name := "passesSign", desc := "(I)Z" } : Jvm.MethodName)) ∈ lw_all := lw_g (lw_at lw_m7 94 rfl) rfl
theorem q1608 : (Jvm.Cond.privateMethod ({ cls := "PassportOfficeModel", name := "passesSign", desc := "(I)Z" } : Jvm.MethodName)) ∈ lw_tbl := lw_at lw_m7 95 rfl
theorem q1609 : (Jvm.Cond.instanceMethod ({ cls := "PassportOfficeModel", name := "passesSign", desc := "(I)Z" } : Jvm.MethodName)) ∈ lw_all := lw_g (lw_at lw_m7 96 rfl) rfl
theorem q1610 : (Jvm.Cond.code ({ cls := "PassportOfficeModel", name := "passesSign", desc := "(I)Z" } : Jvm.MethodName) prog_18_method_13_code (2 : Nat) (Option.some Jvm.ClassFile.FieldType.boolean)) ∈ lw_all := lw_g (lw_at lw_m7 97 rfl) rfl
theorem q1611 : (Jvm.Cond.stringRef "PassportOfficeModel" (265 : Nat) "not") ∈ lw_tbl := lw_at lw_m7 98 rfl
theorem q1612 : (Jvm.Cond.methodLink "PassportOfficeModel" (273 : Nat) ({ cls := "PassportOfficeModel", name := "adds", desc := "(III)V" } : Jvm.MethodName)) ∈ lw_all := lw_g (lw_at lw_m7 99 rfl) rfl
theorem q1613 : (Jvm.Cond.privateMethod ({ cls := "PassportOfficeModel", name := "adds", desc := "(III)V" } : Jvm.MethodName)) ∈ lw_tbl := lw_at lw_m7 100 rfl
theorem q1614 : (Jvm.Cond.instanceMethod ({ cls := "PassportOfficeModel", name := "adds", desc := "(III)V" } : Jvm.MethodName)) ∈ lw_all := lw_g (lw_at lw_m7 101 rfl) rfl
theorem q1615 : (Jvm.Cond.code ({ cls := "PassportOfficeModel", name := "adds", desc := "(III)V" } : Jvm.MethodName) prog_18_method_16_code (5 : Nat) (Option.none : Option Jvm.ClassFile.FieldType)) ∈ lw_all := lw_g (lw_at lw_m7 102 rfl) rfl
theorem q1616 : (Jvm.Cond.methodLink "PassportOfficeModel" (277 : Nat) ({ cls := "PassportOfficeModel", name := "fact", desc := "(I)Ljava/lang/String;" } : Jvm.MethodName)) ∈ lw_all := lw_g (lw_at lw_m7 103 rfl) rfl
theorem q1617 : (Jvm.Cond.static ({ cls := "PassportOfficeModel", name := "fact", desc := "(I)Ljava/lang/String;" } : Jvm.MethodName)) ∈ lw_all := lw_g (lw_at lw_m7 104 rfl) rfl
theorem q1618 : (Jvm.Cond.code ({ cls := "PassportOfficeModel", name := "fact", desc := "(I)Ljava/lang/String;" } : Jvm.MethodName) prog_18_method_17_code (1 : Nat) (Option.some (Jvm.ClassFile.FieldType.object "java/lang/String"))) ∈ lw_all := lw_g (lw_at lw_m7 105 rfl) rfl
theorem q1619 : (Jvm.Cond.stringRef "PassportOfficeModel" (220 : Nat) "age") ∈ lw_tbl := lw_at lw_m7 106 rfl
theorem q1620 : (Jvm.Cond.stringRef "PassportOfficeModel" (222 : Nat) "wanted") ∈ lw_tbl := lw_at lw_m7 107 rfl
theorem q1621 : (Jvm.Cond.stringRef "PassportOfficeModel" (224 : Nat) "valid") ∈ lw_tbl := lw_at lw_m7 108 rfl
theorem q1622 : (Jvm.Cond.stringRef "PassportOfficeModel" (226 : Nat) "abroad") ∈ lw_tbl := lw_at lw_m7 109 rfl
theorem q1623 : (Jvm.Cond.stringRef "PassportOfficeModel" (228 : Nat) "first") ∈ lw_tbl := lw_at lw_m7 110 rfl
theorem q1624 : (Jvm.Cond.stringRef "PassportOfficeModel" (230 : Nat) "renew") ∈ lw_tbl := lw_at lw_m7 111 rfl
theorem q1625 : (Jvm.Cond.stringRef "PassportOfficeModel" (232 : Nat) "lost") ∈ lw_tbl := lw_at lw_m7 112 rfl
theorem q1626 : (Jvm.Cond.stringRef "PassportOfficeModel" (234 : Nat) "second") ∈ lw_tbl := lw_at lw_m7 113 rfl
theorem q1627 : (Jvm.Cond.stringRef "PassportOfficeModel" (236 : Nat) "urgent") ∈ lw_tbl := lw_at lw_m7 114 rfl
theorem q1628 : (Jvm.Cond.stringRef "PassportOfficeModel" (284 : Nat) "and") ∈ lw_tbl := lw_at lw_m7 115 rfl
theorem q1629 : (Jvm.Cond.stringRef "PassportOfficeModel" (289 : Nat) "or") ∈ lw_tbl := lw_at lw_m7 116 rfl
theorem q1631 : (Jvm.Cond.instanceMethod ({ cls := "PassportOfficeModel", name := "person", desc := "(IZIIIII)I" } : Jvm.MethodName)) ∈ lw_all := lw_g (lw_at lw_m7 118 rfl) rfl
theorem q1632 : (Jvm.Cond.selects "PassportOfficeModel" ({ cls := "PassportOfficeModel", name := "person", desc := "(IZIIIII)I" } : Jvm.MethodName) ({ cls := "PassportOfficeModel", name := "person", desc := "(IZIIIII)I" } : Jvm.MethodName)) ∈ lw_all := lw_g (lw_at lw_m7 119 rfl) rfl
theorem q1633 : (Jvm.Cond.code ({ cls := "PassportOfficeModel", name := "person", desc := "(IZIIIII)I" } : Jvm.MethodName) prog_18_method_30_code (8 : Nat) (Option.some Jvm.ClassFile.FieldType.int)) ∈ lw_all := lw_g (lw_at lw_m7 120 rfl) rfl
theorem q1634 : (Jvm.Cond.constant "PassportOfficeModel" (375 : Nat) (-40000 : Int32)) ∈ lw_all := lw_g (lw_at lw_m7 121 rfl) rfl
theorem q1635 : (Jvm.Cond.methodLink "PassportOfficeModel" (376 : Nat) ({ cls := "PassportOfficeModel", name := "noFace", desc := "(I)Z" } : Jvm.MethodName)) ∈ lw_all := lw_g (lw_at lw_m7 122 rfl) rfl
theorem q1636 : (Jvm.Cond.static ({ cls := "PassportOfficeModel", name := "noFace", desc := "(I)Z" } : Jvm.MethodName)) ∈ lw_all := lw_g (lw_at lw_m7 123 rfl) rfl
theorem q1637 : (Jvm.Cond.code ({ cls := "PassportOfficeModel", name := "noFace", desc := "(I)Z" } : Jvm.MethodName) prog_18_method_29_code (1 : Nat) (Option.some Jvm.ClassFile.FieldType.boolean)) ∈ lw_all := lw_g (lw_at lw_m7 124 rfl) rfl
theorem q1639 : (Jvm.Cond.instanceMethod ({ cls := "PassportOfficeModel", name := "name", desc := "(I)I" } : Jvm.MethodName)) ∈ lw_all := lw_g (lw_at lw_m7 126 rfl) rfl
theorem q1640 : (Jvm.Cond.selects "PassportOfficeModel" ({ cls := "PassportOfficeModel", name := "name", desc := "(I)I" } : Jvm.MethodName) ({ cls := "PassportOfficeModel", name := "name", desc := "(I)I" } : Jvm.MethodName)) ∈ lw_all := lw_g (lw_at lw_m7 127 rfl) rfl
theorem q1641 : (Jvm.Cond.code ({ cls := "PassportOfficeModel", name := "name", desc := "(I)I" } : Jvm.MethodName) prog_18_method_34_code (4 : Nat) (Option.some Jvm.ClassFile.FieldType.int)) ∈ lw_all := lw_g (lw_at lw_m7 128 rfl) rfl
theorem q1642 : (Jvm.Cond.methodLink "PassportOfficeModel" (385 : Nat) ({ cls := "PassportOfficeModel", name := "nobody", desc := "(I)Z" } : Jvm.MethodName)) ∈ lw_all := lw_g (lw_at lw_m7 129 rfl) rfl
theorem q1643 : (Jvm.Cond.privateMethod ({ cls := "PassportOfficeModel", name := "nobody", desc := "(I)Z" } : Jvm.MethodName)) ∈ lw_tbl := lw_at lw_m7 130 rfl
theorem q1644 : (Jvm.Cond.instanceMethod ({ cls := "PassportOfficeModel", name := "nobody", desc := "(I)Z" } : Jvm.MethodName)) ∈ lw_all := lw_g (lw_at lw_m7 131 rfl) rfl
theorem q1645 : (Jvm.Cond.code ({ cls := "PassportOfficeModel", name := "nobody", desc := "(I)Z" } : Jvm.MethodName) prog_18_method_28_code (2 : Nat) (Option.some Jvm.ClassFile.FieldType.boolean)) ∈ lw_all := lw_g (lw_at lw_m7 132 rfl) rfl
theorem q1646 : (Jvm.Cond.methodLink "PassportOfficeModel" (388 : Nat) ({ cls := "PassportOfficeModel", name := "readName", desc := "()I" } : Jvm.MethodName)) ∈ lw_all := lw_g (lw_at lw_m7 133 rfl) rfl
theorem q1647 : (Jvm.Cond.privateMethod ({ cls := "PassportOfficeModel", name := "readName", desc := "()I" } : Jvm.MethodName)) ∈ lw_tbl := lw_at lw_m7 134 rfl
theorem q1648 : (Jvm.Cond.instanceMethod ({ cls := "PassportOfficeModel", name := "readName", desc := "()I" } : Jvm.MethodName)) ∈ lw_all := lw_g (lw_at lw_m7 135 rfl) rfl
theorem q1649 : (Jvm.Cond.code ({ cls := "PassportOfficeModel", name := "readName", desc := "()I" } : Jvm.MethodName) prog_18_method_33_code (5 : Nat) (Option.some Jvm.ClassFile.FieldType.int)) ∈ lw_all := lw_g (lw_at lw_m7 136 rfl) rfl
theorem q1650 : (Jvm.Cond.methodLink "PassportOfficeModel" (379 : Nat) ({ cls := "PassportOfficeModel", name := "turnOf", desc := "(I)I" } : Jvm.MethodName)) ∈ lw_all := lw_g (lw_at lw_m7 137 rfl) rfl
theorem q1651 : (Jvm.Cond.static ({ cls := "PassportOfficeModel", name := "turnOf", desc := "(I)I" } : Jvm.MethodName)) ∈ lw_all := lw_g (lw_at lw_m7 138 rfl) rfl
theorem q1652 : (Jvm.Cond.code ({ cls := "PassportOfficeModel", name := "turnOf", desc := "(I)I" } : Jvm.MethodName) prog_18_method_32_code (1 : Nat) (Option.some Jvm.ClassFile.FieldType.int)) ∈ lw_all := lw_g (lw_at lw_m7 139 rfl) rfl
theorem q1653 : (Jvm.Cond.methodLink "PassportOfficeModel" (382 : Nat) ({ cls := "PassportOfficeModel", name := "isGap", desc := "(I)Z" } : Jvm.MethodName)) ∈ lw_all := lw_g (lw_at lw_m7 140 rfl) rfl
theorem q1654 : (Jvm.Cond.static ({ cls := "PassportOfficeModel", name := "isGap", desc := "(I)Z" } : Jvm.MethodName)) ∈ lw_all := lw_g (lw_at lw_m7 141 rfl) rfl
theorem q1655 : (Jvm.Cond.code ({ cls := "PassportOfficeModel", name := "isGap", desc := "(I)Z" } : Jvm.MethodName) prog_18_method_31_code (1 : Nat) (Option.some Jvm.ClassFile.FieldType.boolean)) ∈ lw_all := lw_g (lw_at lw_m7 142 rfl) rfl
theorem q1657 : (Jvm.Cond.instanceMethod ({ cls := "PassportOfficeModel", name := "sign", desc := "(II)I" } : Jvm.MethodName)) ∈ lw_all := lw_g (lw_at lw_m7 144 rfl) rfl
theorem q1658 : (Jvm.Cond.selects "PassportOfficeModel" ({ cls := "PassportOfficeModel", name := "sign", desc := "(II)I" } : Jvm.MethodName) ({ cls := "PassportOfficeModel", name := "sign", desc := "(II)I" } : Jvm.MethodName)) ∈ lw_all := lw_g (lw_at lw_m7 145 rfl) rfl
theorem q1659 : (Jvm.Cond.code ({ cls := "PassportOfficeModel", name := "sign", desc := "(II)I" } : Jvm.MethodName) prog_18_method_35_code (3 : Nat) (Option.some Jvm.ClassFile.FieldType.int)) ∈ lw_all := lw_g (lw_at lw_m7 146 rfl) rfl
theorem q1661 : (Jvm.Cond.instanceMethod ({ cls := "PassportOfficeModel", name := "figure", desc := "(I)I" } : Jvm.MethodName)) ∈ lw_all := lw_g (lw_at lw_m7 148 rfl) rfl
theorem q1662 : (Jvm.Cond.selects "PassportOfficeModel" ({ cls := "PassportOfficeModel", name := "figure", desc := "(I)I" } : Jvm.MethodName) ({ cls := "PassportOfficeModel", name := "figure", desc := "(I)I" } : Jvm.MethodName)) ∈ lw_all := lw_g (lw_at lw_m7 149 rfl) rfl
theorem q1663 : (Jvm.Cond.code ({ cls := "PassportOfficeModel", name := "figure", desc := "(I)I" } : Jvm.MethodName) prog_18_method_36_code (5 : Nat) (Option.some Jvm.ClassFile.FieldType.int)) ∈ lw_all := lw_g (lw_at lw_m7 150 rfl) rfl
theorem q1665 : (Jvm.Cond.instanceMethod ({ cls := "PassportOfficeModel", name := "far", desc := "(II)I" } : Jvm.MethodName)) ∈ lw_all := lw_g (lw_at lw_m7 152 rfl) rfl
theorem q1666 : (Jvm.Cond.selects "PassportOfficeModel" ({ cls := "PassportOfficeModel", name := "far", desc := "(II)I" } : Jvm.MethodName) ({ cls := "PassportOfficeModel", name := "far", desc := "(II)I" } : Jvm.MethodName)) ∈ lw_all := lw_g (lw_at lw_m7 153 rfl) rfl
theorem q1667 : (Jvm.Cond.code ({ cls := "PassportOfficeModel", name := "far", desc := "(II)I" } : Jvm.MethodName) prog_18_method_38_code (3 : Nat) (Option.some Jvm.ClassFile.FieldType.int)) ∈ lw_all := lw_g (lw_at lw_m7 154 rfl) rfl
theorem q1668 : (Jvm.Cond.methodLink "PassportOfficeModel" (391 : Nat) ({ cls := "PassportOfficeModel", name := "farOf", desc := "(II)I" } : Jvm.MethodName)) ∈ lw_all := lw_g (lw_at lw_m7 155 rfl) rfl
theorem q1669 : (Jvm.Cond.privateMethod ({ cls := "PassportOfficeModel", name := "farOf", desc := "(II)I" } : Jvm.MethodName)) ∈ lw_tbl := lw_at lw_m7 156 rfl
theorem q1670 : (Jvm.Cond.instanceMethod ({ cls := "PassportOfficeModel", name := "farOf", desc := "(II)I" } : Jvm.MethodName)) ∈ lw_all := lw_g (lw_at lw_m7 157 rfl) rfl
theorem q1671 : (Jvm.Cond.code ({ cls := "PassportOfficeModel", name := "farOf", desc := "(II)I" } : Jvm.MethodName) prog_18_method_37_code (6 : Nat) (Option.some Jvm.ClassFile.FieldType.int)) ∈ lw_all := lw_g (lw_at lw_m7 158 rfl) rfl
theorem q1673 : (Jvm.Cond.instanceMethod ({ cls := "PassportOfficeModel", name := "hands", desc := "(II)V" } : Jvm.MethodName)) ∈ lw_all := lw_g (lw_at lw_m7 160 rfl) rfl
theorem q1674 : (Jvm.Cond.selects "PassportOfficeModel" ({ cls := "PassportOfficeModel", name := "hands", desc := "(II)V" } : Jvm.MethodName) ({ cls := "PassportOfficeModel", name := "hands", desc := "(II)V" } : Jvm.MethodName)) ∈ lw_all := lw_g (lw_at lw_m7 161 rfl) rfl
theorem q1675 : (Jvm.Cond.code ({ cls := "PassportOfficeModel", name := "hands", desc := "(II)V" } : Jvm.MethodName) prog_18_method_40_code (3 : Nat) (Option.none : Option Jvm.ClassFile.FieldType)) ∈ lw_all := lw_g (lw_at lw_m7 162 rfl) rfl
theorem q1676 : (Jvm.Cond.methodLink "PassportOfficeModel" (394 : Nat) ({ cls := "PassportOfficeModel", name := "noDesk", desc := "(I)Z" } : Jvm.MethodName)) ∈ lw_all := lw_g (lw_at lw_m7 163 rfl) rfl
theorem q1677 : (Jvm.Cond.static ({ cls := "PassportOfficeModel", name := "noDesk", desc := "(I)Z" } : Jvm.MethodName)) ∈ lw_all := lw_g (lw_at lw_m7 164 rfl) rfl
theorem q1678 : (Jvm.Cond.code ({ cls := "PassportOfficeModel", name := "noDesk", desc := "(I)Z" } : Jvm.MethodName) prog_18_method_39_code (1 : Nat) (Option.some Jvm.ClassFile.FieldType.boolean)) ∈ lw_all := lw_g (lw_at lw_m7 165 rfl) rfl
theorem q1680 : (Jvm.Cond.instanceMethod ({ cls := "PassportOfficeModel", name := "lend", desc := "(IIIII)I" } : Jvm.MethodName)) ∈ lw_all := lw_g (lw_at lw_m7 167 rfl) rfl
theorem q1681 : (Jvm.Cond.selects "PassportOfficeModel" ({ cls := "PassportOfficeModel", name := "lend", desc := "(IIIII)I" } : Jvm.MethodName) ({ cls := "PassportOfficeModel", name := "lend", desc := "(IIIII)I" } : Jvm.MethodName)) ∈ lw_all := lw_g (lw_at lw_m7 168 rfl) rfl
theorem q1682 : (Jvm.Cond.code ({ cls := "PassportOfficeModel", name := "lend", desc := "(IIIII)I" } : Jvm.MethodName) prog_18_method_41_code (6 : Nat) (Option.some Jvm.ClassFile.FieldType.int)) ∈ lw_all := lw_g (lw_at lw_m7 169 rfl) rfl
theorem q1684 : (Jvm.Cond.instanceMethod ({ cls := "PassportOfficeModel", name := "units", desc := "(II)I" } : Jvm.MethodName)) ∈ lw_all := lw_g (lw_at lw_m7 171 rfl) rfl
theorem q1685 : (Jvm.Cond.selects "PassportOfficeModel" ({ cls := "PassportOfficeModel", name := "units", desc := "(II)I" } : Jvm.MethodName) ({ cls := "PassportOfficeModel", name := "units", desc := "(II)I" } : Jvm.MethodName)) ∈ lw_all := lw_g (lw_at lw_m7 172 rfl) rfl
theorem q1686 : (Jvm.Cond.code ({ cls := "PassportOfficeModel", name := "units", desc := "(II)I" } : Jvm.MethodName) prog_18_method_43_code (3 : Nat) (Option.some Jvm.ClassFile.FieldType.int)) ∈ lw_all := lw_g (lw_at lw_m7 173 rfl) rfl
theorem q1687 : (Jvm.Cond.methodLink "PassportOfficeModel" (400 : Nat) ({ cls := "PassportOfficeModel", name := "unitsOf", desc := "(II)I" } : Jvm.MethodName)) ∈ lw_all := lw_g (lw_at lw_m7 174 rfl) rfl
theorem q1688 : (Jvm.Cond.privateMethod ({ cls := "PassportOfficeModel", name := "unitsOf", desc := "(II)I" } : Jvm.MethodName)) ∈ lw_tbl := lw_at lw_m7 175 rfl
theorem q1689 : (Jvm.Cond.instanceMethod ({ cls := "PassportOfficeModel", name := "unitsOf", desc := "(II)I" } : Jvm.MethodName)) ∈ lw_all := lw_g (lw_at lw_m7 176 rfl) rfl
theorem q1690 : (Jvm.Cond.code ({ cls := "PassportOfficeModel", name := "unitsOf", desc := "(II)I" } : Jvm.MethodName) prog_18_method_42_code (5 : Nat) (Option.some Jvm.ClassFile.FieldType.int)) ∈ lw_all := lw_g (lw_at lw_m7 177 rfl) rfl
theorem q1691 : (Jvm.Cond.methodLink "PassportOfficeModel" (366 : Nat) ({ cls := "java/lang/Math", name := "max", desc := "(II)I" } : Jvm.MethodName)) ∈ lw_all := lw_g (lw_at lw_m7 178 rfl) rfl
theorem q1693 : (Jvm.Cond.instanceMethod ({ cls := "PassportOfficeModel", name := "rules", desc := "(IIIII)V" } : Jvm.MethodName)) ∈ lw_all := lw_g (lw_at lw_m7 180 rfl) rfl
theorem q1694 : (Jvm.Cond.selects "PassportOfficeModel" ({ cls := "PassportOfficeModel", name := "rules", desc := "(IIIII)V" } : Jvm.MethodName) ({ cls := "PassportOfficeModel", name := "rules", desc := "(IIIII)V" } : Jvm.MethodName)) ∈ lw_all := lw_g (lw_at lw_m7 181 rfl) rfl
theorem q1695 : (Jvm.Cond.code ({ cls := "PassportOfficeModel", name := "rules", desc := "(IIIII)V" } : Jvm.MethodName) prog_18_method_44_code (6 : Nat) (Option.none : Option Jvm.ClassFile.FieldType)) ∈ lw_all := lw_g (lw_at lw_m7 182 rfl) rfl
theorem q1697 : (Jvm.Cond.instanceMethod ({ cls := "PassportOfficeModel", name := "order", desc := "(I)V" } : Jvm.MethodName)) ∈ lw_all := lw_g (lw_at lw_m7 184 rfl) rfl
theorem q1698 : (Jvm.Cond.selects "PassportOfficeModel" ({ cls := "PassportOfficeModel", name := "order", desc := "(I)V" } : Jvm.MethodName) ({ cls := "PassportOfficeModel", name := "order", desc := "(I)V" } : Jvm.MethodName)) ∈ lw_all := lw_g (lw_at lw_m7 185 rfl) rfl
theorem q1699 : (Jvm.Cond.code ({ cls := "PassportOfficeModel", name := "order", desc := "(I)V" } : Jvm.MethodName) prog_18_method_45_code (2 : Nat) (Option.none : Option Jvm.ClassFile.FieldType)) ∈ lw_all := lw_g (lw_at lw_m7 186 rfl) rfl
theorem q1701 : (Jvm.Cond.instanceMethod ({ cls := "PassportOfficeModel", name := "blanks", desc := "(I)I" } : Jvm.MethodName)) ∈ lw_all := lw_g (lw_at lw_m7 188 rfl) rfl
theorem q1702 : (Jvm.Cond.selects "PassportOfficeModel" ({ cls := "PassportOfficeModel", name := "blanks", desc := "(I)I" } : Jvm.MethodName) ({ cls := "PassportOfficeModel", name := "blanks", desc := "(I)I" } : Jvm.MethodName)) ∈ lw_all := lw_g (lw_at lw_m7 189 rfl) rfl
theorem q1703 : (Jvm.Cond.code ({ cls := "PassportOfficeModel", name := "blanks", desc := "(I)I" } : Jvm.MethodName) prog_18_method_46_code (2 : Nat) (Option.some Jvm.ClassFile.FieldType.int)) ∈ lw_all := lw_g (lw_at lw_m7 190 rfl) rfl
theorem q1705 : (Jvm.Cond.instanceMethod ({ cls := "PassportOfficeModel", name := "broken", desc := "(II)V" } : Jvm.MethodName)) ∈ lw_all := lw_g (lw_at lw_m7 192 rfl) rfl
theorem q1706 : (Jvm.Cond.selects "PassportOfficeModel" ({ cls := "PassportOfficeModel", name := "broken", desc := "(II)V" } : Jvm.MethodName) ({ cls := "PassportOfficeModel", name := "broken", desc := "(II)V" } : Jvm.MethodName)) ∈ lw_all := lw_g (lw_at lw_m7 193 rfl) rfl
theorem q1707 : (Jvm.Cond.code ({ cls := "PassportOfficeModel", name := "broken", desc := "(II)V" } : Jvm.MethodName) prog_18_method_47_code (3 : Nat) (Option.none : Option Jvm.ClassFile.FieldType)) ∈ lw_all := lw_g (lw_at lw_m7 194 rfl) rfl
theorem q1709 : (Jvm.Cond.instanceMethod ({ cls := "PassportOfficeModel", name := "judge", desc := "(IIIZI)I" } : Jvm.MethodName)) ∈ lw_all := lw_g (lw_at lw_m7 196 rfl) rfl
theorem q1710 : (Jvm.Cond.selects "PassportOfficeModel" ({ cls := "PassportOfficeModel", name := "judge", desc := "(IIIZI)I" } : Jvm.MethodName) ({ cls := "PassportOfficeModel", name := "judge", desc := "(IIIZI)I" } : Jvm.MethodName)) ∈ lw_all := lw_g (lw_at lw_m7 197 rfl) rfl
theorem q1711 : (Jvm.Cond.code ({ cls := "PassportOfficeModel", name := "judge", desc := "(IIIZI)I" } : Jvm.MethodName) prog_18_method_54_code (6 : Nat) (Option.some Jvm.ClassFile.FieldType.int)) ∈ lw_all := lw_g (lw_at lw_m7 198 rfl) rfl
theorem q1712 : (Jvm.Cond.methodLink "PassportOfficeModel" (418 : Nat) ({ cls := "PassportOfficeModel", name := "noAsk", desc := "(II)Z" } : Jvm.MethodName)) ∈ lw_all := lw_g (lw_at lw_m7 199 rfl) rfl
theorem q1713 : (Jvm.Cond.privateMethod ({ cls := "PassportOfficeModel", name := "noAsk", desc := "(II)Z" } : Jvm.MethodName)) ∈ lw_tbl := lw_at lw_m7 200 rfl
theorem q1714 : (Jvm.Cond.instanceMethod ({ cls := "PassportOfficeModel", name := "noAsk", desc := "(II)Z" } : Jvm.MethodName)) ∈ lw_all := lw_g (lw_at lw_m7 201 rfl) rfl
theorem q1715 : (Jvm.Cond.code ({ cls := "PassportOfficeModel", name := "noAsk", desc := "(II)Z" } : Jvm.MethodName) prog_18_method_53_code (3 : Nat) (Option.some Jvm.ClassFile.FieldType.boolean)) ∈ lw_all := lw_g (lw_at lw_m7 202 rfl) rfl
theorem q1716 : (Jvm.Cond.methodLink "PassportOfficeModel" (421 : Nat) ({ cls := "PassportOfficeModel", name := "judges", desc := "(IIIZ)V" } : Jvm.MethodName)) ∈ lw_all := lw_g (lw_at lw_m7 203 rfl) rfl
theorem q1717 : (Jvm.Cond.privateMethod ({ cls := "PassportOfficeModel", name := "judges", desc := "(IIIZ)V" } : Jvm.MethodName)) ∈ lw_tbl := lw_at lw_m7 204 rfl
theorem q1718 : (Jvm.Cond.instanceMethod ({ cls := "PassportOfficeModel", name := "judges", desc := "(IIIZ)V" } : Jvm.MethodName)) ∈ lw_all := lw_g (lw_at lw_m7 205 rfl) rfl
theorem q1719 : (Jvm.Cond.code ({ cls := "PassportOfficeModel", name := "judges", desc := "(IIIZ)V" } : Jvm.MethodName) prog_18_method_27_code (8 : Nat) (Option.none : Option Jvm.ClassFile.FieldType)) ∈ lw_all := lw_g (lw_at lw_m7 206 rfl) rfl
theorem q1720 : (Jvm.Cond.methodLink "PassportOfficeModel" (331 : Nat) ({ cls := "java/lang/Math", name := "floorDiv", desc := "(II)I" } : Jvm.MethodName)) ∈ lw_all := lw_g (lw_at lw_m7 207 rfl) rfl
theorem q1723 : (Jvm.Cond.methodLink "PassportOfficeModel" (337 : Nat) ({ cls := "PassportOfficeModel", name := "validOf", desc := "(II)I" } : Jvm.MethodName)) ∈ lw_all := lw_g (lw_at lw_m7 210 rfl) rfl
theorem q1724 : (Jvm.Cond.privateMethod ({ cls := "PassportOfficeModel", name := "validOf", desc := "(II)I" } : Jvm.MethodName)) ∈ lw_tbl := lw_at lw_m7 211 rfl
theorem q1725 : (Jvm.Cond.instanceMethod ({ cls := "PassportOfficeModel", name := "validOf", desc := "(II)I" } : Jvm.MethodName)) ∈ lw_all := lw_g (lw_at lw_m7 212 rfl) rfl
theorem q1726 : (Jvm.Cond.code ({ cls := "PassportOfficeModel", name := "validOf", desc := "(II)I" } : Jvm.MethodName) prog_18_method_52_code (5 : Nat) (Option.some Jvm.ClassFile.FieldType.int)) ∈ lw_all := lw_g (lw_at lw_m7 213 rfl) rfl
theorem q1727 : (Jvm.Cond.methodLink "PassportOfficeModel" (359 : Nat) ({ cls := "PassportOfficeModel", name := "lawOf", desc := "(I)I" } : Jvm.MethodName)) ∈ lw_all := lw_g (lw_at lw_m7 214 rfl) rfl
theorem q1728 : (Jvm.Cond.privateMethod ({ cls := "PassportOfficeModel", name := "lawOf", desc := "(I)I" } : Jvm.MethodName)) ∈ lw_tbl := lw_at lw_m7 215 rfl
theorem q1729 : (Jvm.Cond.instanceMethod ({ cls := "PassportOfficeModel", name := "lawOf", desc := "(I)I" } : Jvm.MethodName)) ∈ lw_all := lw_g (lw_at lw_m7 216 rfl) rfl
theorem q1730 : (Jvm.Cond.code ({ cls := "PassportOfficeModel", name := "lawOf", desc := "(I)I" } : Jvm.MethodName) prog_18_method_25_code (4 : Nat) (Option.some Jvm.ClassFile.FieldType.int)) ∈ lw_all := lw_g (lw_at lw_m7 217 rfl) rfl
theorem q1731 : (Jvm.Cond.methodLink "PassportOfficeModel" (363 : Nat) ({ cls := "PassportOfficeModel", name := "holds", desc := "(III)Z" } : Jvm.MethodName)) ∈ lw_all := lw_g (lw_at lw_m7 218 rfl) rfl
theorem q1732 : (Jvm.Cond.privateMethod ({ cls := "PassportOfficeModel", name := "holds", desc := "(III)Z" } : Jvm.MethodName)) ∈ lw_tbl := lw_at lw_m7 219 rfl
theorem q1733 : (Jvm.Cond.instanceMethod ({ cls := "PassportOfficeModel", name := "holds", desc := "(III)Z" } : Jvm.MethodName)) ∈ lw_all := lw_g (lw_at lw_m7 220 rfl) rfl
theorem q1734 : (Jvm.Cond.code ({ cls := "PassportOfficeModel", name := "holds", desc := "(III)Z" } : Jvm.MethodName) prog_18_method_26_code (7 : Nat) (Option.some Jvm.ClassFile.FieldType.boolean)) ∈ lw_all := lw_g (lw_at lw_m7 221 rfl) rfl
theorem q1735 : (Jvm.Cond.methodLink "PassportOfficeModel" (369 : Nat) ({ cls := "java/lang/Math", name := "min", desc := "(II)I" } : Jvm.MethodName)) ∈ lw_all := lw_g (lw_at lw_m7 222 rfl) rfl
theorem q1737 : (Jvm.Cond.instanceMethod ({ cls := "PassportOfficeModel", name := "ask", desc := "(IIIIZ)I" } : Jvm.MethodName)) ∈ lw_all := lw_g (lw_at lw_m7 224 rfl) rfl
theorem q1738 : (Jvm.Cond.selects "PassportOfficeModel" ({ cls := "PassportOfficeModel", name := "ask", desc := "(IIIIZ)I" } : Jvm.MethodName) ({ cls := "PassportOfficeModel", name := "ask", desc := "(IIIIZ)I" } : Jvm.MethodName)) ∈ lw_all := lw_g (lw_at lw_m7 225 rfl) rfl
theorem q1739 : (Jvm.Cond.code ({ cls := "PassportOfficeModel", name := "ask", desc := "(IIIIZ)I" } : Jvm.MethodName) prog_18_method_55_code (7 : Nat) (Option.some Jvm.ClassFile.FieldType.int)) ∈ lw_all := lw_g (lw_at lw_m7 226 rfl) rfl
theorem q1740 : (Jvm.Cond.methodLink "PassportOfficeModel" (425 : Nat) ({ cls := "PassportOfficeModel", name := "sets", desc := "(III)V" } : Jvm.MethodName)) ∈ lw_all := lw_g (lw_at lw_m7 227 rfl) rfl
theorem q1741 : (Jvm.Cond.privateMethod ({ cls := "PassportOfficeModel", name := "sets", desc := "(III)V" } : Jvm.MethodName)) ∈ lw_tbl := lw_at lw_m7 228 rfl
theorem q1742 : (Jvm.Cond.instanceMethod ({ cls := "PassportOfficeModel", name := "sets", desc := "(III)V" } : Jvm.MethodName)) ∈ lw_all := lw_g (lw_at lw_m7 229 rfl) rfl
theorem q1743 : (Jvm.Cond.code ({ cls := "PassportOfficeModel", name := "sets", desc := "(III)V" } : Jvm.MethodName) prog_18_method_50_code (4 : Nat) (Option.none : Option Jvm.ClassFile.FieldType)) ∈ lw_all := lw_g (lw_at lw_m7 230 rfl) rfl
theorem q1745 : (Jvm.Cond.instanceMethod ({ cls := "PassportOfficeModel", name := "give", desc := "(II)I" } : Jvm.MethodName)) ∈ lw_all := lw_g (lw_at lw_m7 232 rfl) rfl
theorem q1746 : (Jvm.Cond.selects "PassportOfficeModel" ({ cls := "PassportOfficeModel", name := "give", desc := "(II)I" } : Jvm.MethodName) ({ cls := "PassportOfficeModel", name := "give", desc := "(II)I" } : Jvm.MethodName)) ∈ lw_all := lw_g (lw_at lw_m7 233 rfl) rfl
theorem q1747 : (Jvm.Cond.code ({ cls := "PassportOfficeModel", name := "give", desc := "(II)I" } : Jvm.MethodName) prog_18_method_56_code (3 : Nat) (Option.some Jvm.ClassFile.FieldType.int)) ∈ lw_all := lw_g (lw_at lw_m7 234 rfl) rfl
theorem q1748 : (Jvm.Cond.methodLink "PassportOfficeModel" (431 : Nat) ({ cls := "PassportOfficeModel", name := "noAsking", desc := "(I)Z" } : Jvm.MethodName)) ∈ lw_all := lw_g (lw_at lw_m7 235 rfl) rfl
theorem q1749 : (Jvm.Cond.privateMethod ({ cls := "PassportOfficeModel", name := "noAsking", desc := "(I)Z" } : Jvm.MethodName)) ∈ lw_tbl := lw_at lw_m7 236 rfl
theorem q1750 : (Jvm.Cond.instanceMethod ({ cls := "PassportOfficeModel", name := "noAsking", desc := "(I)Z" } : Jvm.MethodName)) ∈ lw_all := lw_g (lw_at lw_m7 237 rfl) rfl
theorem q1751 : (Jvm.Cond.code ({ cls := "PassportOfficeModel", name := "noAsking", desc := "(I)Z" } : Jvm.MethodName) prog_18_method_48_code (2 : Nat) (Option.some Jvm.ClassFile.FieldType.boolean)) ∈ lw_all := lw_g (lw_at lw_m7 238 rfl) rfl
theorem q1752 : (Jvm.Cond.methodLink "PassportOfficeModel" (434 : Nat) ({ cls := "PassportOfficeModel", name := "now", desc := "(II)I" } : Jvm.MethodName)) ∈ lw_all := lw_g (lw_at lw_m7 239 rfl) rfl
theorem q1753 : (Jvm.Cond.privateMethod ({ cls := "PassportOfficeModel", name := "now", desc := "(II)I" } : Jvm.MethodName)) ∈ lw_tbl := lw_at lw_m8 0 rfl
theorem q1754 : (Jvm.Cond.instanceMethod ({ cls := "PassportOfficeModel", name := "now", desc := "(II)I" } : Jvm.MethodName)) ∈ lw_all := lw_g (lw_at lw_m8 1 rfl) rfl
theorem q1755 : (Jvm.Cond.code ({ cls := "PassportOfficeModel", name := "now", desc := "(II)I" } : Jvm.MethodName) prog_18_method_49_code (3 : Nat) (Option.some Jvm.ClassFile.FieldType.int)) ∈ lw_all := lw_g (lw_at lw_m8 2 rfl) rfl
theorem q1756 : (Jvm.Cond.methodLink "PassportOfficeModel" (437 : Nat) ({ cls := "PassportOfficeModel", name := "lacksOf", desc := "(I)I" } : Jvm.MethodName)) ∈ lw_all := lw_g (lw_at lw_m8 3 rfl) rfl
theorem q1757 : (Jvm.Cond.privateMethod ({ cls := "PassportOfficeModel", name := "lacksOf", desc := "(I)I" } : Jvm.MethodName)) ∈ lw_tbl := lw_at lw_m8 4 rfl
theorem q1758 : (Jvm.Cond.instanceMethod ({ cls := "PassportOfficeModel", name := "lacksOf", desc := "(I)I" } : Jvm.MethodName)) ∈ lw_all := lw_g (lw_at lw_m8 5 rfl) rfl
theorem q1759 : (Jvm.Cond.code ({ cls := "PassportOfficeModel", name := "lacksOf", desc := "(I)I" } : Jvm.MethodName) prog_18_method_51_code (2 : Nat) (Option.some Jvm.ClassFile.FieldType.int)) ∈ lw_all := lw_g (lw_at lw_m8 6 rfl) rfl
theorem q1761 : (Jvm.Cond.instanceMethod ({ cls := "PassportOfficeModel", name := "tell", desc := "(IIZ)I" } : Jvm.MethodName)) ∈ lw_all := lw_g (lw_at lw_m8 8 rfl) rfl
theorem q1762 : (Jvm.Cond.selects "PassportOfficeModel" ({ cls := "PassportOfficeModel", name := "tell", desc := "(IIZ)I" } : Jvm.MethodName) ({ cls := "PassportOfficeModel", name := "tell", desc := "(IIZ)I" } : Jvm.MethodName)) ∈ lw_all := lw_g (lw_at lw_m8 9 rfl) rfl
theorem q1763 : (Jvm.Cond.code ({ cls := "PassportOfficeModel", name := "tell", desc := "(IIZ)I" } : Jvm.MethodName) prog_18_method_58_code (6 : Nat) (Option.some Jvm.ClassFile.FieldType.int)) ∈ lw_all := lw_g (lw_at lw_m8 10 rfl) rfl
theorem q1764 : (Jvm.Cond.methodLink "PassportOfficeModel" (440 : Nat) ({ cls := "PassportOfficeModel", name := "checks", desc := "(I)V" } : Jvm.MethodName)) ∈ lw_all := lw_g (lw_at lw_m8 11 rfl) rfl
theorem q1765 : (Jvm.Cond.privateMethod ({ cls := "PassportOfficeModel", name := "checks", desc := "(I)V" } : Jvm.MethodName)) ∈ lw_tbl := lw_at lw_m8 12 rfl
theorem q1766 : (Jvm.Cond.instanceMethod ({ cls := "PassportOfficeModel", name := "checks", desc := "(I)V" } : Jvm.MethodName)) ∈ lw_all := lw_g (lw_at lw_m8 13 rfl) rfl
theorem q1767 : (Jvm.Cond.code ({ cls := "PassportOfficeModel", name := "checks", desc := "(I)V" } : Jvm.MethodName) prog_18_method_57_code (6 : Nat) (Option.none : Option Jvm.ClassFile.FieldType)) ∈ lw_all := lw_g (lw_at lw_m8 14 rfl) rfl
theorem q1769 : (Jvm.Cond.instanceMethod ({ cls := "PassportOfficeModel", name := "days", desc := "(I)I" } : Jvm.MethodName)) ∈ lw_all := lw_g (lw_at lw_m8 16 rfl) rfl
theorem q1770 : (Jvm.Cond.selects "PassportOfficeModel" ({ cls := "PassportOfficeModel", name := "days", desc := "(I)I" } : Jvm.MethodName) ({ cls := "PassportOfficeModel", name := "days", desc := "(I)I" } : Jvm.MethodName)) ∈ lw_all := lw_g (lw_at lw_m8 17 rfl) rfl
theorem q1771 : (Jvm.Cond.code ({ cls := "PassportOfficeModel", name := "days", desc := "(I)I" } : Jvm.MethodName) prog_18_method_70_code (3 : Nat) (Option.some Jvm.ClassFile.FieldType.int)) ∈ lw_all := lw_g (lw_at lw_m8 18 rfl) rfl
theorem q1772 : (Jvm.Cond.methodLink "PassportOfficeModel" (490 : Nat) ({ cls := "PassportOfficeModel", name := "day", desc := "(I)V" } : Jvm.MethodName)) ∈ lw_all := lw_g (lw_at lw_m8 19 rfl) rfl
theorem q1773 : (Jvm.Cond.privateMethod ({ cls := "PassportOfficeModel", name := "day", desc := "(I)V" } : Jvm.MethodName)) ∈ lw_tbl := lw_at lw_m8 20 rfl
theorem q1774 : (Jvm.Cond.instanceMethod ({ cls := "PassportOfficeModel", name := "day", desc := "(I)V" } : Jvm.MethodName)) ∈ lw_all := lw_g (lw_at lw_m8 21 rfl) rfl
theorem q1775 : (Jvm.Cond.code ({ cls := "PassportOfficeModel", name := "day", desc := "(I)V" } : Jvm.MethodName) prog_18_method_69_code (4 : Nat) (Option.none : Option Jvm.ClassFile.FieldType)) ∈ lw_all := lw_g (lw_at lw_m8 22 rfl) rfl
theorem q1776 : (Jvm.Cond.methodLink "PassportOfficeModel" (459 : Nat) ({ cls := "PassportOfficeModel", name := "gets", desc := "(I)V" } : Jvm.MethodName)) ∈ lw_all := lw_g (lw_at lw_m8 23 rfl) rfl
theorem q1777 : (Jvm.Cond.privateMethod ({ cls := "PassportOfficeModel", name := "gets", desc := "(I)V" } : Jvm.MethodName)) ∈ lw_tbl := lw_at lw_m8 24 rfl
theorem q1778 : (Jvm.Cond.instanceMethod ({ cls := "PassportOfficeModel", name := "gets", desc := "(I)V" } : Jvm.MethodName)) ∈ lw_all := lw_g (lw_at lw_m8 25 rfl) rfl
theorem q1779 : (Jvm.Cond.code ({ cls := "PassportOfficeModel", name := "gets", desc := "(I)V" } : Jvm.MethodName) prog_18_method_64_code (2 : Nat) (Option.none : Option Jvm.ClassFile.FieldType)) ∈ lw_all := lw_g (lw_at lw_m8 26 rfl) rfl
theorem q1780 : (Jvm.Cond.methodLink "PassportOfficeModel" (487 : Nat) ({ cls := "PassportOfficeModel", name := "works", desc := "(II)V" } : Jvm.MethodName)) ∈ lw_all := lw_g (lw_at lw_m8 27 rfl) rfl
theorem q1781 : (Jvm.Cond.privateMethod ({ cls := "PassportOfficeModel", name := "works", desc := "(II)V" } : Jvm.MethodName)) ∈ lw_tbl := lw_at lw_m8 28 rfl
theorem q1782 : (Jvm.Cond.instanceMethod ({ cls := "PassportOfficeModel", name := "works", desc := "(II)V" } : Jvm.MethodName)) ∈ lw_all := lw_g (lw_at lw_m8 29 rfl) rfl
theorem q1783 : (Jvm.Cond.code ({ cls := "PassportOfficeModel", name := "works", desc := "(II)V" } : Jvm.MethodName) prog_18_method_68_code (6 : Nat) (Option.none : Option Jvm.ClassFile.FieldType)) ∈ lw_all := lw_g (lw_at lw_m8 30 rfl) rfl
theorem q1784 : (Jvm.Cond.methodLink "PassportOfficeModel" (468 : Nat) ({ cls := "PassportOfficeModel", name := "lines", desc := "(II)V" } : Jvm.MethodName)) ∈ lw_all := lw_g (lw_at lw_m8 31 rfl) rfl
theorem q1785 : (Jvm.Cond.privateMethod ({ cls := "PassportOfficeModel", name := "lines", desc := "(II)V" } : Jvm.MethodName)) ∈ lw_tbl := lw_at lw_m8 32 rfl
theorem q1786 : (Jvm.Cond.instanceMethod ({ cls := "PassportOfficeModel", name := "lines", desc := "(II)V" } : Jvm.MethodName)) ∈ lw_all := lw_g (lw_at lw_m8 33 rfl) rfl
theorem q1787 : (Jvm.Cond.code ({ cls := "PassportOfficeModel", name := "lines", desc := "(II)V" } : Jvm.MethodName) prog_18_method_62_code (5 : Nat) (Option.none : Option Jvm.ClassFile.FieldType)) ∈ lw_all := lw_g (lw_at lw_m8 34 rfl) rfl
theorem q1788 : (Jvm.Cond.methodLink "PassportOfficeModel" (450 : Nat) ({ cls := "PassportOfficeModel", name := "stateAt", desc := "(I)I" } : Jvm.MethodName)) ∈ lw_all := lw_g (lw_at lw_m8 35 rfl) rfl
theorem q1789 : (Jvm.Cond.static ({ cls := "PassportOfficeModel", name := "stateAt", desc := "(I)I" } : Jvm.MethodName)) ∈ lw_all := lw_g (lw_at lw_m8 36 rfl) rfl
theorem q1790 : (Jvm.Cond.code ({ cls := "PassportOfficeModel", name := "stateAt", desc := "(I)I" } : Jvm.MethodName) prog_18_method_59_code (1 : Nat) (Option.some Jvm.ClassFile.FieldType.int)) ∈ lw_all := lw_g (lw_at lw_m8 37 rfl) rfl
theorem q1791 : (Jvm.Cond.methodLink "PassportOfficeModel" (453 : Nat) ({ cls := "PassportOfficeModel", name := "isAhead", desc := "(III)Z" } : Jvm.MethodName)) ∈ lw_all := lw_g (lw_at lw_m8 38 rfl) rfl
theorem q1792 : (Jvm.Cond.privateMethod ({ cls := "PassportOfficeModel", name := "isAhead", desc := "(III)Z" } : Jvm.MethodName)) ∈ lw_tbl := lw_at lw_m8 39 rfl
theorem q1793 : (Jvm.Cond.instanceMethod ({ cls := "PassportOfficeModel", name := "isAhead", desc := "(III)Z" } : Jvm.MethodName)) ∈ lw_all := lw_g (lw_at lw_m8 40 rfl) rfl
theorem q1794 : (Jvm.Cond.code ({ cls := "PassportOfficeModel", name := "isAhead", desc := "(III)Z" } : Jvm.MethodName) prog_18_method_61_code (4 : Nat) (Option.some Jvm.ClassFile.FieldType.boolean)) ∈ lw_all := lw_g (lw_at lw_m8 41 rfl) rfl
theorem q1795 : (Jvm.Cond.methodLink "PassportOfficeModel" (444 : Nat) ({ cls := "PassportOfficeModel", name := "hasTicket", desc := "(I)Z" } : Jvm.MethodName)) ∈ lw_all := lw_g (lw_at lw_m8 42 rfl) rfl
theorem q1796 : (Jvm.Cond.privateMethod ({ cls := "PassportOfficeModel", name := "hasTicket", desc := "(I)Z" } : Jvm.MethodName)) ∈ lw_tbl := lw_at lw_m8 43 rfl
theorem q1797 : (Jvm.Cond.instanceMethod ({ cls := "PassportOfficeModel", name := "hasTicket", desc := "(I)Z" } : Jvm.MethodName)) ∈ lw_all := lw_g (lw_at lw_m8 44 rfl) rfl
theorem q1798 : (Jvm.Cond.code ({ cls := "PassportOfficeModel", name := "hasTicket", desc := "(I)Z" } : Jvm.MethodName) prog_18_method_60_code (2 : Nat) (Option.some Jvm.ClassFile.FieldType.boolean)) ∈ lw_all := lw_g (lw_at lw_m8 45 rfl) rfl
theorem q1799 : (Jvm.Cond.methodLink "PassportOfficeModel" (472 : Nat) ({ cls := "PassportOfficeModel", name := "takes", desc := "(II)I" } : Jvm.MethodName)) ∈ lw_all := lw_g (lw_at lw_m8 46 rfl) rfl
theorem q1800 : (Jvm.Cond.privateMethod ({ cls := "PassportOfficeModel", name := "takes", desc := "(II)I" } : Jvm.MethodName)) ∈ lw_tbl := lw_at lw_m8 47 rfl
theorem q1801 : (Jvm.Cond.instanceMethod ({ cls := "PassportOfficeModel", name := "takes", desc := "(II)I" } : Jvm.MethodName)) ∈ lw_all := lw_g (lw_at lw_m8 48 rfl) rfl
theorem q1802 : (Jvm.Cond.code ({ cls := "PassportOfficeModel", name := "takes", desc := "(II)I" } : Jvm.MethodName) prog_18_method_63_code (3 : Nat) (Option.some Jvm.ClassFile.FieldType.int)) ∈ lw_all := lw_g (lw_at lw_m8 49 rfl) rfl
theorem q1803 : (Jvm.Cond.methodLink "PassportOfficeModel" (475 : Nat) ({ cls := "PassportOfficeModel", name := "canPrint", desc := "()Z" } : Jvm.MethodName)) ∈ lw_all := lw_g (lw_at lw_m8 50 rfl) rfl
theorem q1804 : (Jvm.Cond.privateMethod ({ cls := "PassportOfficeModel", name := "canPrint", desc := "()Z" } : Jvm.MethodName)) ∈ lw_tbl := lw_at lw_m8 51 rfl
theorem q1805 : (Jvm.Cond.instanceMethod ({ cls := "PassportOfficeModel", name := "canPrint", desc := "()Z" } : Jvm.MethodName)) ∈ lw_all := lw_g (lw_at lw_m8 52 rfl) rfl
theorem q1806 : (Jvm.Cond.code ({ cls := "PassportOfficeModel", name := "canPrint", desc := "()Z" } : Jvm.MethodName) prog_18_method_67_code (1 : Nat) (Option.some Jvm.ClassFile.FieldType.boolean)) ∈ lw_all := lw_g (lw_at lw_m8 53 rfl) rfl
theorem q1807 : (Jvm.Cond.methodLink "PassportOfficeModel" (478 : Nat) ({ cls := "PassportOfficeModel", name := "does", desc := "(II)V" } : Jvm.MethodName)) ∈ lw_all := lw_g (lw_at lw_m8 54 rfl) rfl
theorem q1808 : (Jvm.Cond.privateMethod ({ cls := "PassportOfficeModel", name := "does", desc := "(II)V" } : Jvm.MethodName)) ∈ lw_tbl := lw_at lw_m8 55 rfl
theorem q1809 : (Jvm.Cond.instanceMethod ({ cls := "PassportOfficeModel", name := "does", desc := "(II)V" } : Jvm.MethodName)) ∈ lw_all := lw_g (lw_at lw_m8 56 rfl) rfl
theorem q1810 : (Jvm.Cond.code ({ cls := "PassportOfficeModel", name := "does", desc := "(II)V" } : Jvm.MethodName) prog_18_method_66_code (3 : Nat) (Option.none : Option Jvm.ClassFile.FieldType)) ∈ lw_all := lw_g (lw_at lw_m8 57 rfl) rfl
theorem q1811 : (Jvm.Cond.methodLink "PassportOfficeModel" (462 : Nat) ({ cls := "PassportOfficeModel", name := "prints", desc := "(I)V" } : Jvm.MethodName)) ∈ lw_all := lw_g (lw_at lw_m8 58 rfl) rfl
theorem q1812 : (Jvm.Cond.privateMethod ({ cls := "PassportOfficeModel", name := "prints", desc := "(I)V" } : Jvm.MethodName)) ∈ lw_tbl := lw_at lw_m8 59 rfl
theorem q1813 : (Jvm.Cond.instanceMethod ({ cls := "PassportOfficeModel", name := "prints", desc := "(I)V" } : Jvm.MethodName)) ∈ lw_all := lw_g (lw_at lw_m8 60 rfl) rfl
theorem q1814 : (Jvm.Cond.code ({ cls := "PassportOfficeModel", name := "prints", desc := "(I)V" } : Jvm.MethodName) prog_18_method_65_code (4 : Nat) (Option.none : Option Jvm.ClassFile.FieldType)) ∈ lw_all := lw_g (lw_at lw_m8 61 rfl) rfl
theorem q1816 : (Jvm.Cond.instanceMethod ({ cls := "PassportOfficeModel", name := "refuse", desc := "(I)V" } : Jvm.MethodName)) ∈ lw_all := lw_g (lw_at lw_m8 63 rfl) rfl
theorem q1817 : (Jvm.Cond.selects "PassportOfficeModel" ({ cls := "PassportOfficeModel", name := "refuse", desc := "(I)V" } : Jvm.MethodName) ({ cls := "PassportOfficeModel", name := "refuse", desc := "(I)V" } : Jvm.MethodName)) ∈ lw_all := lw_g (lw_at lw_m8 64 rfl) rfl
theorem q1818 : (Jvm.Cond.code ({ cls := "PassportOfficeModel", name := "refuse", desc := "(I)V" } : Jvm.MethodName) prog_18_method_71_code (2 : Nat) (Option.none : Option Jvm.ClassFile.FieldType)) ∈ lw_all := lw_g (lw_at lw_m8 65 rfl) rfl
theorem q1820 : (Jvm.Cond.instanceMethod ({ cls := "PassportOfficeModel", name := "lose", desc := "(I)V" } : Jvm.MethodName)) ∈ lw_all := lw_g (lw_at lw_m8 67 rfl) rfl
theorem q1821 : (Jvm.Cond.selects "PassportOfficeModel" ({ cls := "PassportOfficeModel", name := "lose", desc := "(I)V" } : Jvm.MethodName) ({ cls := "PassportOfficeModel", name := "lose", desc := "(I)V" } : Jvm.MethodName)) ∈ lw_all := lw_g (lw_at lw_m8 68 rfl) rfl
theorem q1822 : (Jvm.Cond.code ({ cls := "PassportOfficeModel", name := "lose", desc := "(I)V" } : Jvm.MethodName) prog_18_method_72_code (3 : Nat) (Option.none : Option Jvm.ClassFile.FieldType)) ∈ lw_all := lw_g (lw_at lw_m8 69 rfl) rfl
theorem q1824 : (Jvm.Cond.instanceMethod ({ cls := "PassportOfficeModel", name := "again", desc := "(I)V" } : Jvm.MethodName)) ∈ lw_all := lw_g (lw_at lw_m8 71 rfl) rfl
theorem q1825 : (Jvm.Cond.selects "PassportOfficeModel" ({ cls := "PassportOfficeModel", name := "again", desc := "(I)V" } : Jvm.MethodName) ({ cls := "PassportOfficeModel", name := "again", desc := "(I)V" } : Jvm.MethodName)) ∈ lw_all := lw_g (lw_at lw_m8 72 rfl) rfl
theorem q1826 : (Jvm.Cond.code ({ cls := "PassportOfficeModel", name := "again", desc := "(I)V" } : Jvm.MethodName) prog_18_method_73_code (2 : Nat) (Option.none : Option Jvm.ClassFile.FieldType)) ∈ lw_all := lw_g (lw_at lw_m8 73 rfl) rfl
theorem q1828 : (Jvm.Cond.instanceMethod ({ cls := "PassportOfficeModel", name := "led", desc := "(II)I" } : Jvm.MethodName)) ∈ lw_all := lw_g (lw_at lw_m8 75 rfl) rfl
theorem q1829 : (Jvm.Cond.selects "PassportOfficeModel" ({ cls := "PassportOfficeModel", name := "led", desc := "(II)I" } : Jvm.MethodName) ({ cls := "PassportOfficeModel", name := "led", desc := "(II)I" } : Jvm.MethodName)) ∈ lw_all := lw_g (lw_at lw_m8 76 rfl) rfl
theorem q1830 : (Jvm.Cond.code ({ cls := "PassportOfficeModel", name := "led", desc := "(II)I" } : Jvm.MethodName) prog_18_method_74_code (3 : Nat) (Option.some Jvm.ClassFile.FieldType.int)) ∈ lw_all := lw_g (lw_at lw_m8 77 rfl) rfl
theorem q1832 : (Jvm.Cond.instanceMethod ({ cls := "PassportOfficeModel", name := "queue", desc := "(I)I" } : Jvm.MethodName)) ∈ lw_all := lw_g (lw_at lw_m8 79 rfl) rfl
theorem q1833 : (Jvm.Cond.selects "PassportOfficeModel" ({ cls := "PassportOfficeModel", name := "queue", desc := "(I)I" } : Jvm.MethodName) ({ cls := "PassportOfficeModel", name := "queue", desc := "(I)I" } : Jvm.MethodName)) ∈ lw_all := lw_g (lw_at lw_m8 80 rfl) rfl
theorem q1834 : (Jvm.Cond.code ({ cls := "PassportOfficeModel", name := "queue", desc := "(I)I" } : Jvm.MethodName) prog_18_method_75_code (2 : Nat) (Option.some Jvm.ClassFile.FieldType.int)) ∈ lw_all := lw_g (lw_at lw_m8 81 rfl) rfl
theorem q1836 : (Jvm.Cond.instanceMethod ({ cls := "PassportOfficeModel", name := "ahead", desc := "(I)I" } : Jvm.MethodName)) ∈ lw_all := lw_g (lw_at lw_m8 83 rfl) rfl
theorem q1837 : (Jvm.Cond.selects "PassportOfficeModel" ({ cls := "PassportOfficeModel", name := "ahead", desc := "(I)I" } : Jvm.MethodName) ({ cls := "PassportOfficeModel", name := "ahead", desc := "(I)I" } : Jvm.MethodName)) ∈ lw_all := lw_g (lw_at lw_m8 84 rfl) rfl
theorem q1838 : (Jvm.Cond.code ({ cls := "PassportOfficeModel", name := "ahead", desc := "(I)I" } : Jvm.MethodName) prog_18_method_76_code (5 : Nat) (Option.some Jvm.ClassFile.FieldType.int)) ∈ lw_all := lw_g (lw_at lw_m8 85 rfl) rfl
theorem q1840 : (Jvm.Cond.instanceMethod ({ cls := "PassportOfficeModel", name := "booklet", desc := "(II)I" } : Jvm.MethodName)) ∈ lw_all := lw_g (lw_at lw_m8 87 rfl) rfl
theorem q1841 : (Jvm.Cond.selects "PassportOfficeModel" ({ cls := "PassportOfficeModel", name := "booklet", desc := "(II)I" } : Jvm.MethodName) ({ cls := "PassportOfficeModel", name := "booklet", desc := "(II)I" } : Jvm.MethodName)) ∈ lw_all := lw_g (lw_at lw_m8 88 rfl) rfl
theorem q1842 : (Jvm.Cond.code ({ cls := "PassportOfficeModel", name := "booklet", desc := "(II)I" } : Jvm.MethodName) prog_18_method_77_code (3 : Nat) (Option.some Jvm.ClassFile.FieldType.int)) ∈ lw_all := lw_g (lw_at lw_m8 89 rfl) rfl
theorem q1844 : (Jvm.Cond.instanceMethod ({ cls := "PassportOfficeModel", name := "valid", desc := "(II)I" } : Jvm.MethodName)) ∈ lw_all := lw_g (lw_at lw_m8 91 rfl) rfl
theorem q1845 : (Jvm.Cond.selects "PassportOfficeModel" ({ cls := "PassportOfficeModel", name := "valid", desc := "(II)I" } : Jvm.MethodName) ({ cls := "PassportOfficeModel", name := "valid", desc := "(II)I" } : Jvm.MethodName)) ∈ lw_all := lw_g (lw_at lw_m8 92 rfl) rfl
theorem q1846 : (Jvm.Cond.code ({ cls := "PassportOfficeModel", name := "valid", desc := "(II)I" } : Jvm.MethodName) prog_18_method_78_code (3 : Nat) (Option.some Jvm.ClassFile.FieldType.int)) ∈ lw_all := lw_g (lw_at lw_m8 93 rfl) rfl
theorem q1848 : (Jvm.Cond.instanceMethod ({ cls := "PassportOfficeModel", name := "missed", desc := "(II)I" } : Jvm.MethodName)) ∈ lw_all := lw_g (lw_at lw_m8 95 rfl) rfl
theorem q1849 : (Jvm.Cond.selects "PassportOfficeModel" ({ cls := "PassportOfficeModel", name := "missed", desc := "(II)I" } : Jvm.MethodName) ({ cls := "PassportOfficeModel", name := "missed", desc := "(II)I" } : Jvm.MethodName)) ∈ lw_all := lw_g (lw_at lw_m8 96 rfl) rfl
theorem q1850 : (Jvm.Cond.code ({ cls := "PassportOfficeModel", name := "missed", desc := "(II)I" } : Jvm.MethodName) prog_18_method_79_code (12 : Nat) (Option.some Jvm.ClassFile.FieldType.int)) ∈ lw_all := lw_g (lw_at lw_m8 97 rfl) rfl
theorem q1852 : (Jvm.Cond.instanceMethod ({ cls := "PassportOfficeModel", name := "waits", desc := "(IZ)I" } : Jvm.MethodName)) ∈ lw_all := lw_g (lw_at lw_m8 99 rfl) rfl
theorem q1853 : (Jvm.Cond.selects "PassportOfficeModel" ({ cls := "PassportOfficeModel", name := "waits", desc := "(IZ)I" } : Jvm.MethodName) ({ cls := "PassportOfficeModel", name := "waits", desc := "(IZ)I" } : Jvm.MethodName)) ∈ lw_all := lw_g (lw_at lw_m8 100 rfl) rfl
theorem q1854 : (Jvm.Cond.code ({ cls := "PassportOfficeModel", name := "waits", desc := "(IZ)I" } : Jvm.MethodName) prog_18_method_80_code (9 : Nat) (Option.some Jvm.ClassFile.FieldType.int)) ∈ lw_all := lw_g (lw_at lw_m8 101 rfl) rfl
theorem q1856 : (Jvm.Cond.instanceMethod ({ cls := "PassportOfficeModel", name := "ends", desc := "(II)I" } : Jvm.MethodName)) ∈ lw_all := lw_g (lw_at lw_m8 103 rfl) rfl
theorem q1857 : (Jvm.Cond.selects "PassportOfficeModel" ({ cls := "PassportOfficeModel", name := "ends", desc := "(II)I" } : Jvm.MethodName) ({ cls := "PassportOfficeModel", name := "ends", desc := "(II)I" } : Jvm.MethodName)) ∈ lw_all := lw_g (lw_at lw_m8 104 rfl) rfl
theorem q1858 : (Jvm.Cond.code ({ cls := "PassportOfficeModel", name := "ends", desc := "(II)I" } : Jvm.MethodName) prog_18_method_81_code (5 : Nat) (Option.some Jvm.ClassFile.FieldType.int)) ∈ lw_all := lw_g (lw_at lw_m8 105 rfl) rfl
theorem q1860 : (Jvm.Cond.instanceMethod ({ cls := "PassportOfficeModel", name := "count", desc := "(I)I" } : Jvm.MethodName)) ∈ lw_all := lw_g (lw_at lw_m8 107 rfl) rfl
theorem q1861 : (Jvm.Cond.selects "PassportOfficeModel" ({ cls := "PassportOfficeModel", name := "count", desc := "(I)I" } : Jvm.MethodName) ({ cls := "PassportOfficeModel", name := "count", desc := "(I)I" } : Jvm.MethodName)) ∈ lw_all := lw_g (lw_at lw_m8 108 rfl) rfl
theorem q1862 : (Jvm.Cond.code ({ cls := "PassportOfficeModel", name := "count", desc := "(I)I" } : Jvm.MethodName) prog_18_method_83_code (2 : Nat) (Option.some Jvm.ClassFile.FieldType.int)) ∈ lw_all := lw_g (lw_at lw_m8 109 rfl) rfl
theorem q1863 : (Jvm.Cond.methodLink "PassportOfficeModel" (493 : Nat) ({ cls := "PassportOfficeModel", name := "inState", desc := "(II)I" } : Jvm.MethodName)) ∈ lw_all := lw_g (lw_at lw_m8 110 rfl) rfl
theorem q1864 : (Jvm.Cond.privateMethod ({ cls := "PassportOfficeModel", name := "inState", desc := "(II)I" } : Jvm.MethodName)) ∈ lw_tbl := lw_at lw_m8 111 rfl
theorem q1865 : (Jvm.Cond.instanceMethod ({ cls := "PassportOfficeModel", name := "inState", desc := "(II)I" } : Jvm.MethodName)) ∈ lw_all := lw_g (lw_at lw_m8 112 rfl) rfl
theorem q1866 : (Jvm.Cond.code ({ cls := "PassportOfficeModel", name := "inState", desc := "(II)I" } : Jvm.MethodName) prog_18_method_82_code (5 : Nat) (Option.some Jvm.ClassFile.FieldType.int)) ∈ lw_all := lw_g (lw_at lw_m8 113 rfl) rfl
theorem q1874 : (Jvm.Cond.castable "PassportOfficeModel" "java/lang/Object") ∈ lw_tbl := lw_at lw_m8 121 rfl
theorem in_X5 : ∀ w ∈ wsX50, w ∈ lw_all := lw_in wsX50 [1344, 1346, 1348, 1350, 1352, 1354, 1356, 1358, 1360, 1362, 1364, 1366, 1368, 1370, 1372, 1374, 1376, 1378, 1380, 1382, 1384, 1386, 1388, 1390, 1392, 1394, 1396, 1398, 1400, 1402, 1404, 1406, 1408, 1410, 1412, 1414, 1416, 1418, 1420, 1422, 1424, 1426, 1428, 1430, 1432, 1434, 1436, 1438, 1440, 1442, 1444, 1446, 1448, 1450, 1452, 1454, 1456, 1458, 1460, 1462, 1464, 1466, 1468, 1470, 1472, 1474, 1476, 1478, 1480, 1482, 1484, 1486, 1488, 1490, 1492, 1494, 1496, 1498, 1500, 1502, 1504, 1506, 1508] (by decide +kernel) (by decide +kernel)
theorem q87 : (Jvm.Cond.initialized "PassportOffice$Clause") ∈ lw_all := lw_g (lw_at lw_m1 14 rfl) rfl
theorem q544 : (Jvm.Cond.instantiable "PassportOffice$Clause" (3 : Nat)) ∈ lw_all := lw_g (lw_at lw_m2 231 rfl) rfl
theorem q611 : (Jvm.Cond.instanceMethod ({ cls := "PassportOffice$Clause", name := "<init>", desc := "(IILPassportOffice$Cond;)V" } : Jvm.MethodName)) ∈ lw_all := lw_g (lw_at lw_m3 58 rfl) rfl
theorem q612 : (Jvm.Cond.code ({ cls := "PassportOffice$Clause", name := "<init>", desc := "(IILPassportOffice$Cond;)V" } : Jvm.MethodName) prog_4_method_1_code (4 : Nat) (Option.none : Option Jvm.ClassFile.FieldType)) ∈ lw_all := lw_g (lw_at lw_m3 59 rfl) rfl
theorem q613 : (Jvm.Cond.methodLink "PassportOffice$Clause" (1 : Nat) ({ cls := "java/lang/Object", name := "<init>", desc := "()V" } : Jvm.MethodName)) ∈ lw_all := lw_g (lw_at lw_m3 60 rfl) rfl
theorem q614 : (Jvm.Cond.fieldLink "PassportOffice$Clause" (7 : Nat) "PassportOffice$Clause" "word" "I") ∈ lw_all := lw_g (lw_at lw_m3 61 rfl) rfl
theorem q616 : (Jvm.Cond.fieldLink "PassportOffice$Clause" (13 : Nat) "PassportOffice$Clause" "number" "I") ∈ lw_all := lw_g (lw_at lw_m3 63 rfl) rfl
theorem q618 : (Jvm.Cond.fieldLink "PassportOffice$Clause" (16 : Nat) "PassportOffice$Clause" "cond" "LPassportOffice$Cond;") ∈ lw_all := lw_g (lw_at lw_m3 65 rfl) rfl
theorem q620 : (Jvm.Cond.laysFinal "PassportOffice$Clause" "PassportOffice$Clause" "word" "I") ∈ lw_all := lw_g (lw_at lw_m3 67 rfl) rfl
theorem q621 : (Jvm.Cond.soleField "PassportOffice$Clause" "word") ∈ lw_all := lw_g (lw_at lw_m3 68 rfl) rfl
theorem q622 : (Jvm.Cond.laysFinal "PassportOffice$Clause" "PassportOffice$Clause" "number" "I") ∈ lw_all := lw_g (lw_at lw_m3 69 rfl) rfl
theorem q623 : (Jvm.Cond.soleField "PassportOffice$Clause" "number") ∈ lw_all := lw_g (lw_at lw_m3 70 rfl) rfl
theorem q624 : (Jvm.Cond.laysFinal "PassportOffice$Clause" "PassportOffice$Clause" "cond" "LPassportOffice$Cond;") ∈ lw_all := lw_g (lw_at lw_m3 71 rfl) rfl
theorem q625 : (Jvm.Cond.soleField "PassportOffice$Clause" "cond") ∈ lw_all := lw_g (lw_at lw_m3 72 rfl) rfl
theorem q626 : (Jvm.Cond.superclass "PassportOffice$Clause" "java/lang/Object") ∈ lw_all := lw_g (lw_at lw_m3 73 rfl) rfl
theorem q1876 : (Jvm.Cond.castable "PassportOffice$Clause" "java/lang/Object") ∈ lw_tbl := lw_at lw_m8 123 rfl
theorem in_X6 : ∀ w ∈ wsX60, w ∈ lw_all := lw_in wsX60 [620, 622, 624] (by decide +kernel) (by decide +kernel)
theorem q88 : (Jvm.Cond.initialized "PassportOffice$Cond") ∈ lw_all := lw_g (lw_at lw_m1 15 rfl) rfl
theorem q569 : (Jvm.Cond.instanceMethod ({ cls := "PassportOffice$Cond", name := "<init>", desc := "()V" } : Jvm.MethodName)) ∈ lw_all := lw_g (lw_at lw_m3 16 rfl) rfl
theorem q570 : (Jvm.Cond.code ({ cls := "PassportOffice$Cond", name := "<init>", desc := "()V" } : Jvm.MethodName) prog_5_method_1_code (1 : Nat) (Option.none : Option Jvm.ClassFile.FieldType)) ∈ lw_all := lw_g (lw_at lw_m3 17 rfl) rfl
theorem q571 : (Jvm.Cond.methodLink "PassportOffice$Cond" (1 : Nat) ({ cls := "java/lang/Object", name := "<init>", desc := "()V" } : Jvm.MethodName)) ∈ lw_all := lw_g (lw_at lw_m3 18 rfl) rfl
theorem q867 : (Jvm.Cond.declares ({ cls := "PassportOffice$Cond", name := "holds", desc := "([I)Z" } : Jvm.MethodName)) ∈ lw_tbl := lw_at lw_m4 74 rfl
theorem q868 : (Jvm.Cond.sameMethod "PassportOffice$Cond" "PassportOffice$Cond" "holds" "([I)Z") ∈ lw_all := lw_g (lw_at lw_m4 75 rfl) rfl
theorem q89 : (Jvm.Cond.initialized "PassportOffice$Fact") ∈ lw_all := lw_g (lw_at lw_m1 16 rfl) rfl
theorem q564 : (Jvm.Cond.instantiable "PassportOffice$Fact" (3 : Nat)) ∈ lw_all := lw_g (lw_at lw_m3 11 rfl) rfl
theorem q566 : (Jvm.Cond.instanceMethod ({ cls := "PassportOffice$Fact", name := "<init>", desc := "(ICI)V" } : Jvm.MethodName)) ∈ lw_all := lw_g (lw_at lw_m3 13 rfl) rfl
theorem q567 : (Jvm.Cond.code ({ cls := "PassportOffice$Fact", name := "<init>", desc := "(ICI)V" } : Jvm.MethodName) prog_6_method_1_code (4 : Nat) (Option.none : Option Jvm.ClassFile.FieldType)) ∈ lw_all := lw_g (lw_at lw_m3 14 rfl) rfl
theorem q568 : (Jvm.Cond.methodLinkNest "PassportOffice$Fact" (1 : Nat) ({ cls := "PassportOffice$Cond", name := "<init>", desc := "()V" } : Jvm.MethodName) "PassportOffice") ∈ lw_tbl := lw_at lw_m3 15 rfl
theorem q572 : (Jvm.Cond.fieldLink "PassportOffice$Fact" (7 : Nat) "PassportOffice$Fact" "fact" "I") ∈ lw_all := lw_g (lw_at lw_m3 19 rfl) rfl
theorem q573 : (Jvm.Cond.fieldLink "PassportOffice$Fact" (17 : Nat) "PassportOffice$Fact" "than" "I") ∈ lw_all := lw_g (lw_at lw_m3 20 rfl) rfl
theorem q574 : (Jvm.Cond.fieldLink "PassportOffice$Fact" (13 : Nat) "PassportOffice$Fact" "how" "C") ∈ lw_all := lw_g (lw_at lw_m3 21 rfl) rfl
theorem q575 : (Jvm.Cond.laysFinal "PassportOffice$Fact" "PassportOffice$Fact" "fact" "I") ∈ lw_all := lw_g (lw_at lw_m3 22 rfl) rfl
theorem q576 : (Jvm.Cond.soleField "PassportOffice$Fact" "fact") ∈ lw_all := lw_g (lw_at lw_m3 23 rfl) rfl
theorem q577 : (Jvm.Cond.laysFinal "PassportOffice$Fact" "PassportOffice$Fact" "than" "I") ∈ lw_all := lw_g (lw_at lw_m3 24 rfl) rfl
theorem q578 : (Jvm.Cond.soleField "PassportOffice$Fact" "than") ∈ lw_all := lw_g (lw_at lw_m3 25 rfl) rfl
theorem q579 : (Jvm.Cond.laysFinal "PassportOffice$Fact" "PassportOffice$Fact" "how" "C") ∈ lw_all := lw_g (lw_at lw_m3 26 rfl) rfl
theorem q580 : (Jvm.Cond.soleField "PassportOffice$Fact" "how") ∈ lw_all := lw_g (lw_at lw_m3 27 rfl) rfl
theorem q581 : (Jvm.Cond.superclass "PassportOffice$Fact" "PassportOffice$Cond") ∈ lw_all := lw_g (lw_at lw_m3 28 rfl) rfl
theorem q869 : (Jvm.Cond.selects "PassportOffice$Fact" ({ cls := "PassportOffice$Cond", name := "holds", desc := "([I)Z" } : Jvm.MethodName) ({ cls := "PassportOffice$Fact", name := "holds", desc := "([I)Z" } : Jvm.MethodName)) ∈ lw_all := lw_g (lw_at lw_m4 76 rfl) rfl
theorem q870 : (Jvm.Cond.instanceMethod ({ cls := "PassportOffice$Fact", name := "holds", desc := "([I)Z" } : Jvm.MethodName)) ∈ lw_all := lw_g (lw_at lw_m4 77 rfl) rfl
theorem q871 : (Jvm.Cond.code ({ cls := "PassportOffice$Fact", name := "holds", desc := "([I)Z" } : Jvm.MethodName) prog_6_method_2_code (3 : Nat) (Option.some Jvm.ClassFile.FieldType.boolean)) ∈ lw_all := lw_g (lw_at lw_m4 78 rfl) rfl
theorem q1877 : (Jvm.Cond.castable "PassportOffice$Fact" "java/lang/Object") ∈ lw_tbl := lw_at lw_m8 124 rfl
theorem in_X8 : ∀ w ∈ wsX80, w ∈ lw_all := lw_in wsX80 [575, 577, 579] (by decide +kernel) (by decide +kernel)
theorem q90 : (Jvm.Cond.initialized "PassportOffice$Not") ∈ lw_all := lw_g (lw_at lw_m1 17 rfl) rfl
theorem q583 : (Jvm.Cond.instantiable "PassportOffice$Not" (1 : Nat)) ∈ lw_all := lw_g (lw_at lw_m3 30 rfl) rfl
theorem q585 : (Jvm.Cond.instanceMethod ({ cls := "PassportOffice$Not", name := "<init>", desc := "(LPassportOffice$Cond;)V" } : Jvm.MethodName)) ∈ lw_all := lw_g (lw_at lw_m3 32 rfl) rfl
theorem q586 : (Jvm.Cond.code ({ cls := "PassportOffice$Not", name := "<init>", desc := "(LPassportOffice$Cond;)V" } : Jvm.MethodName) prog_10_method_1_code (2 : Nat) (Option.none : Option Jvm.ClassFile.FieldType)) ∈ lw_all := lw_g (lw_at lw_m3 33 rfl) rfl
theorem q587 : (Jvm.Cond.methodLinkNest "PassportOffice$Not" (1 : Nat) ({ cls := "PassportOffice$Cond", name := "<init>", desc := "()V" } : Jvm.MethodName) "PassportOffice") ∈ lw_tbl := lw_at lw_m3 34 rfl
theorem q588 : (Jvm.Cond.fieldLink "PassportOffice$Not" (7 : Nat) "PassportOffice$Not" "of" "LPassportOffice$Cond;") ∈ lw_all := lw_g (lw_at lw_m3 35 rfl) rfl
theorem q589 : (Jvm.Cond.laysFinal "PassportOffice$Not" "PassportOffice$Not" "of" "LPassportOffice$Cond;") ∈ lw_all := lw_g (lw_at lw_m3 36 rfl) rfl
theorem q590 : (Jvm.Cond.soleField "PassportOffice$Not" "of") ∈ lw_all := lw_g (lw_at lw_m3 37 rfl) rfl
theorem q591 : (Jvm.Cond.superclass "PassportOffice$Not" "PassportOffice$Cond") ∈ lw_all := lw_g (lw_at lw_m3 38 rfl) rfl
theorem q872 : (Jvm.Cond.selects "PassportOffice$Not" ({ cls := "PassportOffice$Cond", name := "holds", desc := "([I)Z" } : Jvm.MethodName) ({ cls := "PassportOffice$Not", name := "holds", desc := "([I)Z" } : Jvm.MethodName)) ∈ lw_all := lw_g (lw_at lw_m4 79 rfl) rfl
theorem q873 : (Jvm.Cond.instanceMethod ({ cls := "PassportOffice$Not", name := "holds", desc := "([I)Z" } : Jvm.MethodName)) ∈ lw_all := lw_g (lw_at lw_m4 80 rfl) rfl
theorem q874 : (Jvm.Cond.code ({ cls := "PassportOffice$Not", name := "holds", desc := "([I)Z" } : Jvm.MethodName) prog_10_method_2_code (2 : Nat) (Option.some Jvm.ClassFile.FieldType.boolean)) ∈ lw_all := lw_g (lw_at lw_m4 81 rfl) rfl
theorem q875 : (Jvm.Cond.methodLink "PassportOffice$Not" (13 : Nat) ({ cls := "PassportOffice$Cond", name := "holds", desc := "([I)Z" } : Jvm.MethodName)) ∈ lw_all := lw_g (lw_at lw_m4 82 rfl) rfl
theorem q1878 : (Jvm.Cond.castable "PassportOffice$Not" "java/lang/Object") ∈ lw_tbl := lw_at lw_m8 125 rfl
theorem in_X9 : ∀ w ∈ wsX90, w ∈ lw_all := lw_in wsX90 [589] (by decide +kernel) (by decide +kernel)
theorem q93 : (Jvm.Cond.initialized "java/lang/System") ∈ lw_all := lw_g (lw_at lw_m1 20 rfl) rfl
theorem q635 : (Jvm.Cond.static ({ cls := "java/lang/System", name := "arraycopy", desc := "(Ljava/lang/Object;ILjava/lang/Object;II)V" } : Jvm.MethodName)) ∈ lw_all := lw_g (lw_at lw_m3 82 rfl) rfl
theorem q636 : (Jvm.Cond.native ({ cls := "java/lang/System", name := "arraycopy", desc := "(Ljava/lang/Object;ILjava/lang/Object;II)V" } : Jvm.MethodName)) ∈ lw_all := lw_g (lw_at lw_m3 83 rfl) rfl
theorem q121 : (Jvm.Cond.arrayOver (Jvm.ClassFile.FieldType.object "java/lang/String")) ∈ lw_tbl := lw_at lw_m1 48 rfl
theorem q146 : (Jvm.Cond.arrayOver (Jvm.ClassFile.FieldType.object "PassportOffice$Clause")) ∈ lw_tbl := lw_at lw_m1 73 rfl
theorem q221 : (Jvm.Cond.arrayClass Jvm.ClassFile.FieldType.byte) ∈ lw_all := lw_g (lw_at lw_m1 148 rfl) rfl
theorem q262 : (Jvm.Cond.arrayOver (Jvm.ClassFile.FieldType.object "PassportOffice$Law")) ∈ lw_tbl := lw_at lw_m1 189 rfl
theorem q264 : (Jvm.Cond.arrayOver (Jvm.ClassFile.FieldType.object "PassportOffice$Person")) ∈ lw_tbl := lw_at lw_m1 191 rfl
theorem q266 : (Jvm.Cond.arrayOver (Jvm.ClassFile.FieldType.array Jvm.ClassFile.FieldType.byte)) ∈ lw_tbl := lw_at lw_m1 193 rfl
theorem q268 : (Jvm.Cond.arrayOver (Jvm.ClassFile.FieldType.object "PassportOffice$Asking")) ∈ lw_tbl := lw_at lw_m1 195 rfl
theorem q276 : (Jvm.Cond.arrayOver (Jvm.ClassFile.FieldType.object "PassportOffice$Move")) ∈ lw_tbl := lw_at lw_m1 203 rfl
theorem q303 : (Jvm.Cond.arrayOver (Jvm.ClassFile.FieldType.object "PassportOffice$Booklet")) ∈ lw_tbl := lw_at lw_m1 230 rfl
theorem q305 : (Jvm.Cond.arrayOver (Jvm.ClassFile.FieldType.object "PassportOffice$Loan")) ∈ lw_tbl := lw_at lw_m1 232 rfl
theorem q394 : (Jvm.Cond.arrayClass Jvm.ClassFile.FieldType.int) ∈ lw_all := lw_g (lw_at lw_m2 81 rfl) rfl
theorem q1511 : (Jvm.Cond.arrayClass Jvm.ClassFile.FieldType.boolean) ∈ lw_all := lw_g (lw_at lw_m6 238 rfl) rfl
theorem q1867 : (Jvm.Cond.arrayClass Jvm.ClassFile.FieldType.long) ∈ lw_all := lw_g (lw_at lw_m8 114 rfl) rfl
