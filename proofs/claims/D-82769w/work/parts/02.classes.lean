/-! class names, field tables -/
set_option maxRecDepth 100000
def RJ0 : String := "java/lang/Throwable"
def TJ0 : u_T := fun k => match k with
  | 0 => ("java/lang/Throwable", "cause", "Ljava/lang/Throwable;", false)
  | 1 => ("java/lang/Throwable", "stackTrace", "[Ljava/lang/StackTraceElement;", false)
  | 2 => ("java/lang/Throwable", "suppressedExceptions", "Ljava/util/List;", false)
  | 3 => ("java/lang/Throwable", "detailMessage", "Ljava/lang/String;", false)
  | _ => ("java/lang/Throwable", "backtrace", "Ljava/lang/Object;", false)
def tyJ0 : Nat → FieldType := fun k => match k with
  | 0 => .object "java/lang/Throwable"
  | 1 => .array (.object "java/lang/StackTraceElement")
  | 2 => .object "java/util/List"
  | 3 => .object "java/lang/String"
  | _ => .object "java/lang/Object"
abbrev wsJ00 : List Cond := u_ws RJ0 TJ0 5
theorem nmJ0 : ∀ a, a < 5 → ∀ b, b < 5 → a ≠ b → (TJ0 a).2.1 ≠ (TJ0 b).2.1 := by decide +kernel
theorem tyJ0_ok : ∀ k, k < 5 → parseFieldDescriptor (TJ0 k).2.2.1 = some (tyJ0 k) := by decide +kernel
def RJ1 : String := "java/lang/Exception"
def RJ10 : String := "java/lang/ArrayIndexOutOfBoundsException"
def TJ10 : u_T := fun k => match k with
  | 0 => ("java/lang/Throwable", "backtrace", "Ljava/lang/Object;", false)
  | 1 => ("java/lang/Throwable", "detailMessage", "Ljava/lang/String;", false)
  | 2 => ("java/lang/Throwable", "cause", "Ljava/lang/Throwable;", false)
  | 3 => ("java/lang/Throwable", "stackTrace", "[Ljava/lang/StackTraceElement;", false)
  | 4 => ("java/lang/Throwable", "depth", "I", false)
  | _ => ("java/lang/Throwable", "suppressedExceptions", "Ljava/util/List;", false)
def tyJ10 : Nat → FieldType := fun k => match k with
  | 0 => .object "java/lang/Object"
  | 1 => .object "java/lang/String"
  | 2 => .object "java/lang/Throwable"
  | 3 => .array (.object "java/lang/StackTraceElement")
  | 4 => .int
  | _ => .object "java/util/List"
abbrev wsJ100 : List Cond := u_ws RJ10 TJ10 6
theorem nmJ10 : ∀ a, a < 6 → ∀ b, b < 6 → a ≠ b → (TJ10 a).2.1 ≠ (TJ10 b).2.1 := by decide +kernel
theorem tyJ10_ok : ∀ k, k < 6 → parseFieldDescriptor (TJ10 k).2.2.1 = some (tyJ10 k) := by decide +kernel
def RJ11 : String := "java/lang/Math"
def RJ12 : String := "java/util/NoSuchElementException"
def TJ12 : u_T := fun k => match k with
  | 0 => ("java/lang/Throwable", "cause", "Ljava/lang/Throwable;", false)
  | 1 => ("java/lang/Throwable", "stackTrace", "[Ljava/lang/StackTraceElement;", false)
  | 2 => ("java/lang/Throwable", "suppressedExceptions", "Ljava/util/List;", false)
  | 3 => ("java/lang/Throwable", "detailMessage", "Ljava/lang/String;", false)
  | 4 => ("java/lang/Throwable", "backtrace", "Ljava/lang/Object;", false)
  | _ => ("java/lang/Throwable", "depth", "I", false)
def tyJ12 : Nat → FieldType := fun k => match k with
  | 0 => .object "java/lang/Throwable"
  | 1 => .array (.object "java/lang/StackTraceElement")
  | 2 => .object "java/util/List"
  | 3 => .object "java/lang/String"
  | 4 => .object "java/lang/Object"
  | _ => .int
abbrev wsJ120 : List Cond := u_ws RJ12 TJ12 6
theorem nmJ12 : ∀ a, a < 6 → ∀ b, b < 6 → a ≠ b → (TJ12 a).2.1 ≠ (TJ12 b).2.1 := by decide +kernel
theorem tyJ12_ok : ∀ k, k < 6 → parseFieldDescriptor (TJ12 k).2.2.1 = some (tyJ12 k) := by decide +kernel
def RJ13 : String := "java/lang/IllegalStateException"
def TJ13 : u_T := fun k => match k with
  | 0 => ("java/lang/Throwable", "cause", "Ljava/lang/Throwable;", false)
  | 1 => ("java/lang/Throwable", "stackTrace", "[Ljava/lang/StackTraceElement;", false)
  | 2 => ("java/lang/Throwable", "suppressedExceptions", "Ljava/util/List;", false)
  | 3 => ("java/lang/Throwable", "detailMessage", "Ljava/lang/String;", false)
  | 4 => ("java/lang/Throwable", "backtrace", "Ljava/lang/Object;", false)
  | _ => ("java/lang/Throwable", "depth", "I", false)
def tyJ13 : Nat → FieldType := fun k => match k with
  | 0 => .object "java/lang/Throwable"
  | 1 => .array (.object "java/lang/StackTraceElement")
  | 2 => .object "java/util/List"
  | 3 => .object "java/lang/String"
  | 4 => .object "java/lang/Object"
  | _ => .int
abbrev wsJ130 : List Cond := u_ws RJ13 TJ13 6
theorem nmJ13 : ∀ a, a < 6 → ∀ b, b < 6 → a ≠ b → (TJ13 a).2.1 ≠ (TJ13 b).2.1 := by decide +kernel
theorem tyJ13_ok : ∀ k, k < 6 → parseFieldDescriptor (TJ13 k).2.2.1 = some (tyJ13 k) := by decide +kernel
def RJ14 : String := "java/lang/Object"
def RJ2 : String := "java/lang/RuntimeException"
def RJ3 : String := "java/lang/IllegalArgumentException"
def TJ3 : u_T := fun k => match k with
  | 0 => ("java/lang/Throwable", "cause", "Ljava/lang/Throwable;", false)
  | 1 => ("java/lang/Throwable", "stackTrace", "[Ljava/lang/StackTraceElement;", false)
  | 2 => ("java/lang/Throwable", "suppressedExceptions", "Ljava/util/List;", false)
  | 3 => ("java/lang/Throwable", "detailMessage", "Ljava/lang/String;", false)
  | 4 => ("java/lang/Throwable", "backtrace", "Ljava/lang/Object;", false)
  | _ => ("java/lang/Throwable", "depth", "I", false)
def tyJ3 : Nat → FieldType := fun k => match k with
  | 0 => .object "java/lang/Throwable"
  | 1 => .array (.object "java/lang/StackTraceElement")
  | 2 => .object "java/util/List"
  | 3 => .object "java/lang/String"
  | 4 => .object "java/lang/Object"
  | _ => .int
abbrev wsJ30 : List Cond := u_ws RJ3 TJ3 6
theorem nmJ3 : ∀ a, a < 6 → ∀ b, b < 6 → a ≠ b → (TJ3 a).2.1 ≠ (TJ3 b).2.1 := by decide +kernel
theorem tyJ3_ok : ∀ k, k < 6 → parseFieldDescriptor (TJ3 k).2.2.1 = some (tyJ3 k) := by decide +kernel
def RJ4 : String := "java/lang/String"
def TJ4 : u_T := fun k => match k with
  | 0 => ("java/lang/String", "value", "[B", true)
  | _ => ("java/lang/String", "coder", "B", true)
def tyJ4 : Nat → FieldType := fun k => match k with
  | 0 => .array .byte
  | _ => .byte
abbrev wsJ40 : List Cond := u_ws RJ4 TJ4 2
theorem nmJ4 : ∀ a, a < 2 → ∀ b, b < 2 → a ≠ b → (TJ4 a).2.1 ≠ (TJ4 b).2.1 := by decide +kernel
theorem tyJ4_ok : ∀ k, k < 2 → parseFieldDescriptor (TJ4 k).2.2.1 = some (tyJ4 k) := by decide +kernel
def RJ5 : String := "java/lang/StringLatin1"
def RJ6 : String := "jdk/internal/util/Preconditions"
def RJ7 : String := "java/lang/StringUTF16"
def RJ8 : String := "java/lang/UnsupportedOperationException"
def TJ8 : u_T := fun k => match k with
  | 0 => ("java/lang/Throwable", "cause", "Ljava/lang/Throwable;", false)
  | 1 => ("java/lang/Throwable", "stackTrace", "[Ljava/lang/StackTraceElement;", false)
  | 2 => ("java/lang/Throwable", "suppressedExceptions", "Ljava/util/List;", false)
  | 3 => ("java/lang/Throwable", "detailMessage", "Ljava/lang/String;", false)
  | 4 => ("java/lang/Throwable", "backtrace", "Ljava/lang/Object;", false)
  | _ => ("java/lang/Throwable", "depth", "I", false)
def tyJ8 : Nat → FieldType := fun k => match k with
  | 0 => .object "java/lang/Throwable"
  | 1 => .array (.object "java/lang/StackTraceElement")
  | 2 => .object "java/util/List"
  | 3 => .object "java/lang/String"
  | 4 => .object "java/lang/Object"
  | _ => .int
abbrev wsJ80 : List Cond := u_ws RJ8 TJ8 6
theorem nmJ8 : ∀ a, a < 6 → ∀ b, b < 6 → a ≠ b → (TJ8 a).2.1 ≠ (TJ8 b).2.1 := by decide +kernel
theorem tyJ8_ok : ∀ k, k < 6 → parseFieldDescriptor (TJ8 k).2.2.1 = some (tyJ8 k) := by decide +kernel
def RJ9 : String := "java/lang/IndexOutOfBoundsException"
def TJ9 : u_T := fun k => match k with
  | 0 => ("java/lang/Throwable", "cause", "Ljava/lang/Throwable;", false)
  | 1 => ("java/lang/Throwable", "stackTrace", "[Ljava/lang/StackTraceElement;", false)
  | 2 => ("java/lang/Throwable", "suppressedExceptions", "Ljava/util/List;", false)
  | 3 => ("java/lang/Throwable", "detailMessage", "Ljava/lang/String;", false)
  | 4 => ("java/lang/Throwable", "backtrace", "Ljava/lang/Object;", false)
  | _ => ("java/lang/Throwable", "depth", "I", false)
def tyJ9 : Nat → FieldType := fun k => match k with
  | 0 => .object "java/lang/Throwable"
  | 1 => .array (.object "java/lang/StackTraceElement")
  | 2 => .object "java/util/List"
  | 3 => .object "java/lang/String"
  | 4 => .object "java/lang/Object"
  | _ => .int
abbrev wsJ90 : List Cond := u_ws RJ9 TJ9 6
theorem nmJ9 : ∀ a, a < 6 → ∀ b, b < 6 → a ≠ b → (TJ9 a).2.1 ≠ (TJ9 b).2.1 := by decide +kernel
theorem tyJ9_ok : ∀ k, k < 6 → parseFieldDescriptor (TJ9 k).2.2.1 = some (tyJ9 k) := by decide +kernel
def RX0 : String := "PassportOfficeLaw"
def RX1 : String := "PassportOffice"
def TX1 : u_T := fun k => match k with
  | 0 => ("PassportOffice", "reader", "LPassportOffice$Reader;", true)
  | 1 => ("PassportOffice", "laws", "[LPassportOffice$Law;", true)
  | 2 => ("PassportOffice", "people", "[LPassportOffice$Person;", true)
  | 3 => ("PassportOffice", "told", "[[B", true)
  | 4 => ("PassportOffice", "askings", "[LPassportOffice$Asking;", true)
  | 5 => ("PassportOffice", "now", "LPassportOffice$World;", true)
  | 6 => ("PassportOffice", "trial", "LPassportOffice$World;", true)
  | 7 => ("PassportOffice", "booklets", "[LPassportOffice$Booklet;", true)
  | 8 => ("PassportOffice", "loans", "[LPassportOffice$Loan;", true)
  | 9 => ("PassportOffice", "hands", "[I", true)
  | 10 => ("PassportOffice", "row", "[I", true)
  | 11 => ("PassportOffice", "facts", "[I", true)
  | 12 => ("PassportOffice", "sizes", "[I", true)
  | 13 => ("PassportOffice", "lawMany", "I", false)
  | 14 => ("PassportOffice", "peopleMany", "I", false)
  | 15 => ("PassportOffice", "askingMany", "I", false)
  | 16 => ("PassportOffice", "loanMany", "I", false)
  | 17 => ("PassportOffice", "patience", "I", false)
  | 18 => ("PassportOffice", "limit", "I", false)
  | 19 => ("PassportOffice", "doubt", "I", false)
  | 20 => ("PassportOffice", "home", "I", false)
  | 21 => ("PassportOffice", "abroad", "I", false)
  | 22 => ("PassportOffice", "rule", "I", false)
  | 23 => ("PassportOffice", "brokenFrom", "I", false)
  | 24 => ("PassportOffice", "brokenTo", "I", false)
  | 25 => ("PassportOffice", "fees", "I", false)
  | 26 => ("PassportOffice", "paidBack", "I", false)
  | 27 => ("PassportOffice", "allCalls", "I", false)
  | _ => ("PassportOffice", "wrongAt", "I", false)
def tyX1 : Nat → FieldType := fun k => match k with
  | 0 => .object "PassportOffice$Reader"
  | 1 => .array (.object "PassportOffice$Law")
  | 2 => .array (.object "PassportOffice$Person")
  | 3 => .array (.array .byte)
  | 4 => .array (.object "PassportOffice$Asking")
  | 5 => .object "PassportOffice$World"
  | 6 => .object "PassportOffice$World"
  | 7 => .array (.object "PassportOffice$Booklet")
  | 8 => .array (.object "PassportOffice$Loan")
  | 9 => .array .int
  | 10 => .array .int
  | 11 => .array .int
  | 12 => .array .int
  | 13 => .int
  | 14 => .int
  | 15 => .int
  | 16 => .int
  | 17 => .int
  | 18 => .int
  | 19 => .int
  | 20 => .int
  | 21 => .int
  | 22 => .int
  | 23 => .int
  | 24 => .int
  | 25 => .int
  | 26 => .int
  | 27 => .int
  | _ => .int
abbrev wsX10 : List Cond := u_ws RX1 TX1 29
theorem nmX1 : ∀ a, a < 29 → ∀ b, b < 29 → a ≠ b → (TX1 a).2.1 ≠ (TX1 b).2.1 := by decide +kernel
theorem tyX1_ok : ∀ k, k < 29 → parseFieldDescriptor (TX1 k).2.2.1 = some (tyX1 k) := by decide +kernel
def RX10 : String := "PassportOffice$Pair"
def TX10 : u_T := fun k => match k with
  | 0 => ("PassportOffice$Pair", "one", "LPassportOffice$Cond;", true)
  | 1 => ("PassportOffice$Pair", "other", "LPassportOffice$Cond;", true)
  | _ => ("PassportOffice$Pair", "both", "Z", true)
def tyX10 : Nat → FieldType := fun k => match k with
  | 0 => .object "PassportOffice$Cond"
  | 1 => .object "PassportOffice$Cond"
  | _ => .boolean
abbrev wsX100 : List Cond := u_ws RX10 TX10 3
theorem nmX10 : ∀ a, a < 3 → ∀ b, b < 3 → a ≠ b → (TX10 a).2.1 ≠ (TX10 b).2.1 := by decide +kernel
theorem tyX10_ok : ∀ k, k < 3 → parseFieldDescriptor (TX10 k).2.2.1 = some (tyX10 k) := by decide +kernel
def RX11 : String := "PassportOffice$Law"
def TX11 : u_T := fun k => match k with
  | 0 => ("PassportOffice$Law", "from", "I", true)
  | 1 => ("PassportOffice$Law", "many", "I", true)
  | _ => ("PassportOffice$Law", "clauses", "[LPassportOffice$Clause;", true)
def tyX11 : Nat → FieldType := fun k => match k with
  | 0 => .int
  | 1 => .int
  | _ => .array (.object "PassportOffice$Clause")
abbrev wsX110 : List Cond := u_ws RX11 TX11 3
theorem nmX11 : ∀ a, a < 3 → ∀ b, b < 3 → a ≠ b → (TX11 a).2.1 ≠ (TX11 b).2.1 := by decide +kernel
theorem tyX11_ok : ∀ k, k < 3 → parseFieldDescriptor (TX11 k).2.2.1 = some (tyX11 k) := by decide +kernel
def RX12 : String := "PassportOffice$Person"
def TX12 : u_T := fun k => match k with
  | 0 => ("PassportOffice$Person", "born", "I", true)
  | 1 => ("PassportOffice$Person", "abroad", "Z", true)
  | 2 => ("PassportOffice$Person", "face", "[I", true)
  | _ => ("PassportOffice$Person", "name", "[B", false)
def tyX12 : Nat → FieldType := fun k => match k with
  | 0 => .int
  | 1 => .boolean
  | 2 => .array .int
  | _ => .array .byte
abbrev wsX120 : List Cond := u_ws RX12 TX12 4
theorem nmX12 : ∀ a, a < 4 → ∀ b, b < 4 → a ≠ b → (TX12 a).2.1 ≠ (TX12 b).2.1 := by decide +kernel
theorem tyX12_ok : ∀ k, k < 4 → parseFieldDescriptor (TX12 k).2.2.1 = some (tyX12 k) := by decide +kernel
def RX13 : String := "PassportOffice$Ruling"
def TX13 : u_T := fun k => match k with
  | 0 => ("PassportOffice$Ruling", "needs", "I", false)
  | 1 => ("PassportOffice$Ruling", "fee", "I", false)
  | 2 => ("PassportOffice$Ruling", "years", "I", false)
  | 3 => ("PassportOffice$Ruling", "risk", "I", false)
  | 4 => ("PassportOffice$Ruling", "back", "I", false)
  | _ => ("PassportOffice$Ruling", "see", "Z", false)
def tyX13 : Nat → FieldType := fun k => match k with
  | 0 => .int
  | 1 => .int
  | 2 => .int
  | 3 => .int
  | 4 => .int
  | _ => .boolean
abbrev wsX130 : List Cond := u_ws RX13 TX13 6
theorem nmX13 : ∀ a, a < 6 → ∀ b, b < 6 → a ≠ b → (TX13 a).2.1 ≠ (TX13 b).2.1 := by decide +kernel
theorem tyX13_ok : ∀ k, k < 6 → parseFieldDescriptor (TX13 k).2.2.1 = some (tyX13 k) := by decide +kernel
def RX14 : String := "PassportOffice$Asking"
def TX14 : u_T := fun k => match k with
  | 0 => ("PassportOffice$Asking", "number", "I", true)
  | 1 => ("PassportOffice$Asking", "person", "I", true)
  | 2 => ("PassportOffice$Asking", "kind", "I", true)
  | 3 => ("PassportOffice$Asking", "came", "I", true)
  | 4 => ("PassportOffice$Asking", "wanted", "I", true)
  | 5 => ("PassportOffice$Asking", "urgent", "Z", true)
  | _ => ("PassportOffice$Asking", "ruling", "LPassportOffice$Ruling;", true)
def tyX14 : Nat → FieldType := fun k => match k with
  | 0 => .int
  | 1 => .int
  | 2 => .int
  | 3 => .int
  | 4 => .int
  | 5 => .boolean
  | _ => .object "PassportOffice$Ruling"
abbrev wsX140 : List Cond := u_ws RX14 TX14 7
theorem nmX14 : ∀ a, a < 7 → ∀ b, b < 7 → a ≠ b → (TX14 a).2.1 ≠ (TX14 b).2.1 := by decide +kernel
theorem tyX14_ok : ∀ k, k < 7 → parseFieldDescriptor (TX14 k).2.2.1 = some (tyX14 k) := by decide +kernel
def RX15 : String := "PassportOffice$Move"
def TX15 : u_T := fun k => match k with
  | 0 => ("PassportOffice$Move", "state", "I", false)
  | 1 => ("PassportOffice$Move", "items", "I", false)
  | 2 => ("PassportOffice$Move", "booklet", "I", false)
  | 3 => ("PassportOffice$Move", "read", "I", false)
  | 4 => ("PassportOffice$Move", "got", "I", false)
  | 5 => ("PassportOffice$Move", "comes", "I", false)
  | 6 => ("PassportOffice$Move", "backs", "I", false)
  | _ => ("PassportOffice$Move", "paidBack", "Z", false)
def tyX15 : Nat → FieldType := fun k => match k with
  | 0 => .int
  | 1 => .int
  | 2 => .int
  | 3 => .int
  | 4 => .int
  | 5 => .int
  | 6 => .int
  | _ => .boolean
abbrev wsX150 : List Cond := u_ws RX15 TX15 8
theorem nmX15 : ∀ a, a < 8 → ∀ b, b < 8 → a ≠ b → (TX15 a).2.1 ≠ (TX15 b).2.1 := by decide +kernel
theorem tyX15_ok : ∀ k, k < 8 → parseFieldDescriptor (TX15 k).2.2.1 = some (tyX15 k) := by decide +kernel
def RX16 : String := "PassportOffice$Loan"
def TX16 : u_T := fun k => match k with
  | 0 => ("PassportOffice$Loan", "desk", "I", true)
  | 1 => ("PassportOffice$Loan", "hands", "I", true)
  | 2 => ("PassportOffice$Loan", "from", "I", true)
  | 3 => ("PassportOffice$Loan", "to", "I", true)
  | _ => ("PassportOffice$Loan", "training", "I", true)
def tyX16 : Nat → FieldType := fun k => match k with
  | 0 => .int
  | 1 => .int
  | 2 => .int
  | 3 => .int
  | _ => .int
abbrev wsX160 : List Cond := u_ws RX16 TX16 5
theorem nmX16 : ∀ a, a < 5 → ∀ b, b < 5 → a ≠ b → (TX16 a).2.1 ≠ (TX16 b).2.1 := by decide +kernel
theorem tyX16_ok : ∀ k, k < 5 → parseFieldDescriptor (TX16 k).2.2.1 = some (tyX16 k) := by decide +kernel
def RX17 : String := "PassportOffice$Booklet"
def TX17 : u_T := fun k => match k with
  | 0 => ("PassportOffice$Booklet", "person", "I", true)
  | 1 => ("PassportOffice$Booklet", "first", "I", true)
  | 2 => ("PassportOffice$Booklet", "asking", "I", true)
  | _ => ("PassportOffice$Booklet", "end", "I", false)
def tyX17 : Nat → FieldType := fun k => match k with
  | 0 => .int
  | 1 => .int
  | 2 => .int
  | _ => .int
abbrev wsX170 : List Cond := u_ws RX17 TX17 4
theorem nmX17 : ∀ a, a < 4 → ∀ b, b < 4 → a ≠ b → (TX17 a).2.1 ≠ (TX17 b).2.1 := by decide +kernel
theorem tyX17_ok : ∀ k, k < 4 → parseFieldDescriptor (TX17 k).2.2.1 = some (tyX17 k) := by decide +kernel
def RX2 : String := "PassportOffice$Reader"
def TX2 : u_T := fun k => match k with
  | 0 => ("PassportOffice$Reader", "tape", "[B", true)
  | 1 => ("PassportOffice$Reader", "words", "[Ljava/lang/String;", true)
  | 2 => ("PassportOffice$Reader", "items", "[Ljava/lang/String;", true)
  | 3 => ("PassportOffice$Reader", "facts", "[Ljava/lang/String;", true)
  | 4 => ("PassportOffice$Reader", "row", "[LPassportOffice$Clause;", true)
  | 5 => ("PassportOffice$Reader", "turned", "[B", true)
  | 6 => ("PassportOffice$Reader", "wrong", "LPassportOffice$Wrong;", true)
  | 7 => ("PassportOffice$Reader", "size", "I", false)
  | 8 => ("PassportOffice$Reader", "end", "I", false)
  | 9 => ("PassportOffice$Reader", "at", "I", false)
  | 10 => ("PassportOffice$Reader", "deep", "I", false)
  | _ => ("PassportOffice$Reader", "signs", "I", false)
def tyX2 : Nat → FieldType := fun k => match k with
  | 0 => .array .byte
  | 1 => .array (.object "java/lang/String")
  | 2 => .array (.object "java/lang/String")
  | 3 => .array (.object "java/lang/String")
  | 4 => .array (.object "PassportOffice$Clause")
  | 5 => .array .byte
  | 6 => .object "PassportOffice$Wrong"
  | 7 => .int
  | 8 => .int
  | 9 => .int
  | 10 => .int
  | _ => .int
abbrev wsX20 : List Cond := u_ws RX2 TX2 12
theorem nmX2 : ∀ a, a < 12 → ∀ b, b < 12 → a ≠ b → (TX2 a).2.1 ≠ (TX2 b).2.1 := by decide +kernel
theorem tyX2_ok : ∀ k, k < 12 → parseFieldDescriptor (TX2 k).2.2.1 = some (tyX2 k) := by decide +kernel
def RX3 : String := "PassportOffice$Wrong"
def TX3 : u_T := fun k => match k with
  | 0 => ("java/lang/Throwable", "cause", "Ljava/lang/Throwable;", false)
  | 1 => ("java/lang/Throwable", "stackTrace", "[Ljava/lang/StackTraceElement;", false)
  | 2 => ("java/lang/Throwable", "suppressedExceptions", "Ljava/util/List;", false)
  | 3 => ("java/lang/Throwable", "detailMessage", "Ljava/lang/String;", false)
  | 4 => ("java/lang/Throwable", "backtrace", "Ljava/lang/Object;", false)
  | 5 => ("java/lang/Throwable", "depth", "I", false)
  | _ => ("PassportOffice$Wrong", "place", "I", false)
def tyX3 : Nat → FieldType := fun k => match k with
  | 0 => .object "java/lang/Throwable"
  | 1 => .array (.object "java/lang/StackTraceElement")
  | 2 => .object "java/util/List"
  | 3 => .object "java/lang/String"
  | 4 => .object "java/lang/Object"
  | 5 => .int
  | _ => .int
abbrev wsX30 : List Cond := u_ws RX3 TX3 7
theorem nmX3 : ∀ a, a < 7 → ∀ b, b < 7 → a ≠ b → (TX3 a).2.1 ≠ (TX3 b).2.1 := by decide +kernel
theorem tyX3_ok : ∀ k, k < 7 → parseFieldDescriptor (TX3 k).2.2.1 = some (tyX3 k) := by decide +kernel
def RX4 : String := "PassportOffice$World"
def TX4 : u_T := fun k => match k with
  | 0 => ("PassportOffice$World", "moves", "[LPassportOffice$Move;", true)
  | 1 => ("PassportOffice$World", "today", "I", false)
  | 2 => ("PassportOffice$World", "blanks", "I", false)
  | 3 => ("PassportOffice$World", "calls", "I", false)
  | 4 => ("PassportOffice$World", "left", "I", false)
  | _ => ("PassportOffice$World", "booklets", "I", false)
def tyX4 : Nat → FieldType := fun k => match k with
  | 0 => .array (.object "PassportOffice$Move")
  | 1 => .int
  | 2 => .int
  | 3 => .int
  | 4 => .int
  | _ => .int
abbrev wsX40 : List Cond := u_ws RX4 TX4 6
theorem nmX4 : ∀ a, a < 6 → ∀ b, b < 6 → a ≠ b → (TX4 a).2.1 ≠ (TX4 b).2.1 := by decide +kernel
theorem tyX4_ok : ∀ k, k < 6 → parseFieldDescriptor (TX4 k).2.2.1 = some (tyX4 k) := by decide +kernel
def RX5 : String := "PassportOfficeModel"
def TX5 : u_T := fun k => match k with
  | 0 => ("PassportOfficeModel", "thrown", "I", false)
  | 1 => ("PassportOfficeModel", "today", "I", false)
  | 2 => ("PassportOfficeModel", "tape", "[B", true)
  | 3 => ("PassportOfficeModel", "taped", "I", false)
  | 4 => ("PassportOfficeModel", "point", "I", false)
  | 5 => ("PassportOfficeModel", "end", "I", false)
  | 6 => ("PassportOfficeModel", "begin", "I", false)
  | 7 => ("PassportOfficeModel", "deep", "I", false)
  | 8 => ("PassportOfficeModel", "faultAt", "I", false)
  | 9 => ("PassportOfficeModel", "five", "[I", true)
  | 10 => ("PassportOfficeModel", "lawFrom", "[I", true)
  | 11 => ("PassportOfficeModel", "clauses", "[I", true)
  | 12 => ("PassportOfficeModel", "cSort", "[I", true)
  | 13 => ("PassportOfficeModel", "cNumber", "[I", true)
  | 14 => ("PassportOfficeModel", "cBegin", "[I", true)
  | 15 => ("PassportOfficeModel", "cEnd", "[I", true)
  | 16 => ("PassportOfficeModel", "step", "[I", true)
  | 17 => ("PassportOfficeModel", "how", "[I", true)
  | 18 => ("PassportOfficeModel", "than", "[I", true)
  | 19 => ("PassportOfficeModel", "laws", "I", false)
  | 20 => ("PassportOfficeModel", "steps", "I", false)
  | 21 => ("PassportOfficeModel", "facts", "[I", true)
  | 22 => ("PassportOfficeModel", "met", "[Z", true)
  | 23 => ("PassportOfficeModel", "jNeeds", "I", false)
  | 24 => ("PassportOfficeModel", "jFee", "I", false)
  | 25 => ("PassportOfficeModel", "jYears", "I", false)
  | 26 => ("PassportOfficeModel", "jRisk", "I", false)
  | 27 => ("PassportOfficeModel", "jBack", "I", false)
  | 28 => ("PassportOfficeModel", "jSee", "Z", false)
  | 29 => ("PassportOfficeModel", "born", "[I", true)
  | 30 => ("PassportOfficeModel", "isAbroad", "[Z", true)
  | 31 => ("PassportOfficeModel", "face", "[I", true)
  | 32 => ("PassportOfficeModel", "turned", "[I", true)
  | 33 => ("PassportOfficeModel", "hasName", "[Z", true)
  | 34 => ("PassportOfficeModel", "people", "I", false)
  | 35 => ("PassportOfficeModel", "told", "[I", true)
  | 36 => ("PassportOfficeModel", "draftName", "[I", true)
  | 37 => ("PassportOfficeModel", "patience", "I", false)
  | 38 => ("PassportOfficeModel", "limit", "I", false)
  | 39 => ("PassportOfficeModel", "doubt", "I", false)
  | 40 => ("PassportOfficeModel", "home", "I", false)
  | 41 => ("PassportOfficeModel", "away", "I", false)
  | 42 => ("PassportOfficeModel", "rule", "I", false)
  | 43 => ("PassportOfficeModel", "blank", "I", false)
  | 44 => ("PassportOfficeModel", "brokenFrom", "I", false)
  | 45 => ("PassportOfficeModel", "brokenTo", "I", false)
  | 46 => ("PassportOfficeModel", "hands", "[I", true)
  | 47 => ("PassportOfficeModel", "lDesk", "[I", true)
  | 48 => ("PassportOfficeModel", "lMany", "[I", true)
  | 49 => ("PassportOfficeModel", "lFrom", "[I", true)
  | 50 => ("PassportOfficeModel", "lTo", "[I", true)
  | 51 => ("PassportOfficeModel", "lTraining", "[I", true)
  | 52 => ("PassportOfficeModel", "lent", "I", false)
  | 53 => ("PassportOfficeModel", "aPerson", "[I", true)
  | 54 => ("PassportOfficeModel", "aKind", "[I", true)
  | 55 => ("PassportOfficeModel", "aCame", "[I", true)
  | 56 => ("PassportOfficeModel", "aWanted", "[I", true)
  | 57 => ("PassportOfficeModel", "aItems", "[I", true)
  | 58 => ("PassportOfficeModel", "aUrgent", "[Z", true)
  | 59 => ("PassportOfficeModel", "aNeeds", "[I", true)
  | 60 => ("PassportOfficeModel", "aFee", "[I", true)
  | 61 => ("PassportOfficeModel", "aYears", "[I", true)
  | 62 => ("PassportOfficeModel", "aRisk", "[I", true)
  | 63 => ("PassportOfficeModel", "aSee", "[Z", true)
  | 64 => ("PassportOfficeModel", "aBack", "[I", true)
  | 65 => ("PassportOfficeModel", "goes", "[I", true)
  | 66 => ("PassportOfficeModel", "askings", "I", false)
  | 67 => ("PassportOfficeModel", "bPerson", "[I", true)
  | 68 => ("PassportOfficeModel", "bFirst", "[I", true)
  | 69 => ("PassportOfficeModel", "bEnd", "[I", true)
  | 70 => ("PassportOfficeModel", "bAsking", "[I", true)
  | 71 => ("PassportOfficeModel", "booklets", "I", false)
  | 72 => ("PassportOfficeModel", "taken", "I", false)
  | 73 => ("PassportOfficeModel", "given", "I", false)
  | 74 => ("PassportOfficeModel", "calls", "I", false)
  | 75 => ("PassportOfficeModel", "allCalls", "I", false)
  | 76 => ("PassportOfficeModel", "left", "I", false)
  | 77 => ("PassportOfficeModel", "row", "[I", true)
  | 78 => ("PassportOfficeModel", "waiting", "I", false)
  | 79 => ("PassportOfficeModel", "keptGoes", "[I", true)
  | 80 => ("PassportOfficeModel", "keptEnd", "[I", true)
  | 81 => ("PassportOfficeModel", "wait", "[I", true)
  | _ => ("PassportOfficeModel", "lastOnes", "[I", true)
def tyX5 : Nat → FieldType := fun k => match k with
  | 0 => .int
  | 1 => .int
  | 2 => .array .byte
  | 3 => .int
  | 4 => .int
  | 5 => .int
  | 6 => .int
  | 7 => .int
  | 8 => .int
  | 9 => .array .int
  | 10 => .array .int
  | 11 => .array .int
  | 12 => .array .int
  | 13 => .array .int
  | 14 => .array .int
  | 15 => .array .int
  | 16 => .array .int
  | 17 => .array .int
  | 18 => .array .int
  | 19 => .int
  | 20 => .int
  | 21 => .array .int
  | 22 => .array .boolean
  | 23 => .int
  | 24 => .int
  | 25 => .int
  | 26 => .int
  | 27 => .int
  | 28 => .boolean
  | 29 => .array .int
  | 30 => .array .boolean
  | 31 => .array .int
  | 32 => .array .int
  | 33 => .array .boolean
  | 34 => .int
  | 35 => .array .int
  | 36 => .array .int
  | 37 => .int
  | 38 => .int
  | 39 => .int
  | 40 => .int
  | 41 => .int
  | 42 => .int
  | 43 => .int
  | 44 => .int
  | 45 => .int
  | 46 => .array .int
  | 47 => .array .int
  | 48 => .array .int
  | 49 => .array .int
  | 50 => .array .int
  | 51 => .array .int
  | 52 => .int
  | 53 => .array .int
  | 54 => .array .int
  | 55 => .array .int
  | 56 => .array .int
  | 57 => .array .int
  | 58 => .array .boolean
  | 59 => .array .int
  | 60 => .array .int
  | 61 => .array .int
  | 62 => .array .int
  | 63 => .array .boolean
  | 64 => .array .int
  | 65 => .array .int
  | 66 => .int
  | 67 => .array .int
  | 68 => .array .int
  | 69 => .array .int
  | 70 => .array .int
  | 71 => .int
  | 72 => .int
  | 73 => .int
  | 74 => .int
  | 75 => .int
  | 76 => .int
  | 77 => .array .int
  | 78 => .int
  | 79 => .array .int
  | 80 => .array .int
  | 81 => .array .int
  | _ => .array .int
abbrev wsX50 : List Cond := u_ws RX5 TX5 83
theorem nmX5 : ∀ a, a < 83 → ∀ b, b < 83 → a ≠ b → (TX5 a).2.1 ≠ (TX5 b).2.1 := by decide +kernel
theorem tyX5_ok : ∀ k, k < 83 → parseFieldDescriptor (TX5 k).2.2.1 = some (tyX5 k) := by decide +kernel
def RX6 : String := "PassportOffice$Clause"
def TX6 : u_T := fun k => match k with
  | 0 => ("PassportOffice$Clause", "word", "I", true)
  | 1 => ("PassportOffice$Clause", "number", "I", true)
  | _ => ("PassportOffice$Clause", "cond", "LPassportOffice$Cond;", true)
def tyX6 : Nat → FieldType := fun k => match k with
  | 0 => .int
  | 1 => .int
  | _ => .object "PassportOffice$Cond"
abbrev wsX60 : List Cond := u_ws RX6 TX6 3
theorem nmX6 : ∀ a, a < 3 → ∀ b, b < 3 → a ≠ b → (TX6 a).2.1 ≠ (TX6 b).2.1 := by decide +kernel
theorem tyX6_ok : ∀ k, k < 3 → parseFieldDescriptor (TX6 k).2.2.1 = some (tyX6 k) := by decide +kernel
def RX7 : String := "PassportOffice$Cond"
def RX8 : String := "PassportOffice$Fact"
def TX8 : u_T := fun k => match k with
  | 0 => ("PassportOffice$Fact", "fact", "I", true)
  | 1 => ("PassportOffice$Fact", "than", "I", true)
  | _ => ("PassportOffice$Fact", "how", "C", true)
def tyX8 : Nat → FieldType := fun k => match k with
  | 0 => .int
  | 1 => .int
  | _ => .char
abbrev wsX80 : List Cond := u_ws RX8 TX8 3
theorem nmX8 : ∀ a, a < 3 → ∀ b, b < 3 → a ≠ b → (TX8 a).2.1 ≠ (TX8 b).2.1 := by decide +kernel
theorem tyX8_ok : ∀ k, k < 3 → parseFieldDescriptor (TX8 k).2.2.1 = some (tyX8 k) := by decide +kernel
def RX9 : String := "PassportOffice$Not"
def TX9 : u_T := fun k => match k with
  | _ => ("PassportOffice$Not", "of", "LPassportOffice$Cond;", true)
def tyX9 : Nat → FieldType := fun k => match k with
  | _ => .object "PassportOffice$Cond"
abbrev wsX90 : List Cond := u_ws RX9 TX9 1
theorem nmX9 : ∀ a, a < 1 → ∀ b, b < 1 → a ≠ b → (TX9 a).2.1 ≠ (TX9 b).2.1 := by decide +kernel
theorem tyX9_ok : ∀ k, k < 1 → parseFieldDescriptor (TX9 k).2.2.1 = some (tyX9 k) := by decide +kernel
