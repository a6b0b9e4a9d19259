/-! the classes: names, fields -/
set_option maxRecDepth 100000
def RX0 : String := "WeaveDraft"
def TX0 : u_T := fun k => match k with
  | 0 => ("WeaveDraft", "now", "LWeaveDraft$Draft;", true)
  | 1 => ("WeaveDraft", "tried", "LWeaveDraft$Draft;", true)
  | 2 => ("WeaveDraft", "kept", "[LWeaveDraft$Draft;", true)
  | 3 => ("WeaveDraft", "backs", "[LWeaveDraft$Draft;", true)
  | 4 => ("WeaveDraft", "backMany", "I", false)
  | 5 => ("WeaveDraft", "rows", "[I", true)
  | 6 => ("WeaveDraft", "rowMany", "I", false)
  | 7 => ("WeaveDraft", "wide", "I", false)
  | 8 => ("WeaveDraft", "text", "[B", true)
  | 9 => ("WeaveDraft", "letters", "I", false)
  | _ => ("WeaveDraft", "spools", "[LWeaveDraft$Spool;", true)
def tyX0 : Nat → FieldType := fun k => match k with
  | 0 => .object "WeaveDraft$Draft"
  | 1 => .object "WeaveDraft$Draft"
  | 2 => .array (.object "WeaveDraft$Draft")
  | 3 => .array (.object "WeaveDraft$Draft")
  | 4 => .int
  | 5 => .array .int
  | 6 => .int
  | 7 => .int
  | 8 => .array .byte
  | 9 => .int
  | _ => .array (.object "WeaveDraft$Spool")
abbrev wsX00 : List Cond := u_ws RX0 TX0 11
theorem nmX0 : ∀ a, a < 11 → ∀ b, b < 11 → a ≠ b → (TX0 a).2.1 ≠ (TX0 b).2.1 := by decide +kernel
theorem tyX0_ok : ∀ k, k < 11 → parseFieldDescriptor (TX0 k).2.2.1 = some (tyX0 k) := by decide +kernel
theorem in_X0 : ∀ w ∈ wsX00, w ∈ lw_all := lw_in wsX00 [236, 238, 240, 242, 244, 246, 248, 250, 252, 254, 256] (by decide +kernel) (by decide +kernel)
def RX1 : String := "WeaveDraft$Draft"
def TX1 : u_T := fun k => match k with
  | 0 => ("WeaveDraft$Draft", "ends", "I", false)
  | 1 => ("WeaveDraft$Draft", "picks", "I", false)
  | 2 => ("WeaveDraft$Draft", "shafts", "I", false)
  | 3 => ("WeaveDraft$Draft", "treadles", "I", false)
  | 4 => ("WeaveDraft$Draft", "ties", "[I", true)
  | 5 => ("WeaveDraft$Draft", "warp", "[LWeaveDraft$Draft$End;", true)
  | 6 => ("WeaveDraft$Draft", "weft", "[LWeaveDraft$Draft$Pick;", true)
  | _ => ("WeaveDraft$Draft", "this$0", "LWeaveDraft;", true)
def tyX1 : Nat → FieldType := fun k => match k with
  | 0 => .int
  | 1 => .int
  | 2 => .int
  | 3 => .int
  | 4 => .array .int
  | 5 => .array (.object "WeaveDraft$Draft$End")
  | 6 => .array (.object "WeaveDraft$Draft$Pick")
  | _ => .object "WeaveDraft"
abbrev wsX10 : List Cond := u_ws RX1 TX1 8
theorem nmX1 : ∀ a, a < 8 → ∀ b, b < 8 → a ≠ b → (TX1 a).2.1 ≠ (TX1 b).2.1 := by decide +kernel
theorem tyX1_ok : ∀ k, k < 8 → parseFieldDescriptor (TX1 k).2.2.1 = some (tyX1 k) := by decide +kernel
theorem in_X1 : ∀ w ∈ wsX10, w ∈ lw_all := lw_in wsX10 [193, 195, 197, 199, 201, 203, 205, 207] (by decide +kernel) (by decide +kernel)
def RX2 : String := "WeaveDraft$Strand"
def RX3 : String := "WeaveDraft$Draft$End"
def TX3 : u_T := fun k => match k with
  | 0 => ("WeaveDraft$Strand", "tied", "I", false)
  | 1 => ("WeaveDraft$Strand", "colour", "I", false)
  | 2 => ("WeaveDraft$Draft$End", "number", "I", true)
  | _ => ("WeaveDraft$Draft$End", "this$1", "LWeaveDraft$Draft;", true)
def tyX3 : Nat → FieldType := fun k => match k with
  | 0 => .int
  | 1 => .int
  | 2 => .int
  | _ => .object "WeaveDraft$Draft"
abbrev wsX30 : List Cond := u_ws RX3 TX3 4
theorem nmX3 : ∀ a, a < 4 → ∀ b, b < 4 → a ≠ b → (TX3 a).2.1 ≠ (TX3 b).2.1 := by decide +kernel
theorem tyX3_ok : ∀ k, k < 4 → parseFieldDescriptor (TX3 k).2.2.1 = some (tyX3 k) := by decide +kernel
theorem in_X3 : ∀ w ∈ wsX30, w ∈ lw_all := lw_in wsX30 [148, 150, 144, 146] (by decide +kernel) (by decide +kernel)
def RX4 : String := "WeaveDraft$Draft$Pick"
def TX4 : u_T := fun k => match k with
  | 0 => ("WeaveDraft$Strand", "tied", "I", false)
  | 1 => ("WeaveDraft$Strand", "colour", "I", false)
  | 2 => ("WeaveDraft$Draft$Pick", "number", "I", true)
  | _ => ("WeaveDraft$Draft$Pick", "this$1", "LWeaveDraft$Draft;", true)
def tyX4 : Nat → FieldType := fun k => match k with
  | 0 => .int
  | 1 => .int
  | 2 => .int
  | _ => .object "WeaveDraft$Draft"
abbrev wsX40 : List Cond := u_ws RX4 TX4 4
theorem nmX4 : ∀ a, a < 4 → ∀ b, b < 4 → a ≠ b → (TX4 a).2.1 ≠ (TX4 b).2.1 := by decide +kernel
theorem tyX4_ok : ∀ k, k < 4 → parseFieldDescriptor (TX4 k).2.2.1 = some (tyX4 k) := by decide +kernel
theorem in_X4 : ∀ w ∈ wsX40, w ∈ lw_all := lw_in wsX40 [165, 166, 161, 163] (by decide +kernel) (by decide +kernel)
def RX5 : String := "WeaveDraftModel"
def TX5 : u_T := fun k => match k with
  | 0 => ("WeaveDraftModel", "row", "[I", true)
  | 1 => ("WeaveDraftModel", "crosses", "[I", true)
  | 2 => ("WeaveDraftModel", "rows", "I", false)
  | 3 => ("WeaveDraftModel", "columns", "I", false)
  | 4 => ("WeaveDraftModel", "undos", "I", false)
  | 5 => ("WeaveDraftModel", "isKept", "[Z", true)
  | 6 => ("WeaveDraftModel", "text", "[I", true)
  | 7 => ("WeaveDraftModel", "length", "I", false)
  | 8 => ("WeaveDraftModel", "sizes", "[I", true)
  | 9 => ("WeaveDraftModel", "threads", "[I", true)
  | 10 => ("WeaveDraftModel", "first", "I", false)
  | 11 => ("WeaveDraftModel", "behind", "I", false)
  | 12 => ("WeaveDraftModel", "read", "[I", true)
  | 13 => ("WeaveDraftModel", "clauses", "I", false)
  | 14 => ("WeaveDraftModel", "doing", "Z", false)
  | 15 => ("WeaveDraftModel", "numbers", "[I", true)
  | 16 => ("WeaveDraftModel", "words", "[I", true)
  | _ => ("WeaveDraftModel", "ties", "[I", true)
def tyX5 : Nat → FieldType := fun k => match k with
  | 0 => .array .int
  | 1 => .array .int
  | 2 => .int
  | 3 => .int
  | 4 => .int
  | 5 => .array .boolean
  | 6 => .array .int
  | 7 => .int
  | 8 => .array .int
  | 9 => .array .int
  | 10 => .int
  | 11 => .int
  | 12 => .array .int
  | 13 => .int
  | 14 => .boolean
  | 15 => .array .int
  | 16 => .array .int
  | _ => .array .int
abbrev wsX50 : List Cond := u_ws RX5 TX5 18
set_option maxRecDepth 100000 in
theorem nmX5 : ∀ a, a < 18 → ∀ b, b < 18 → a ≠ b → (TX5 a).2.1 ≠ (TX5 b).2.1 := by decide +kernel
set_option maxRecDepth 100000 in
theorem tyX5_ok : ∀ k, k < 18 → parseFieldDescriptor (TX5 k).2.2.1 = some (tyX5 k) := by decide +kernel
theorem in_X5 : ∀ w ∈ wsX50, w ∈ lw_all := lw_in wsX50 [1209, 1211, 1213, 1215, 1217, 1219, 1221, 1223, 1225, 1227, 1229, 1231, 1233, 1235, 1237, 1239, 1241, 1243] (by decide +kernel) (by decide +kernel)
def RX6 : String := "WeaveDraft$Reader"
def TX6 : u_T := fun k => match k with
  | 0 => ("WeaveDraft$Reader", "here", "I", false)
  | 1 => ("WeaveDraft$Reader", "first", "I", false)
  | 2 => ("WeaveDraft$Reader", "word", "Ljava/lang/String;", false)
  | 3 => ("WeaveDraft$Reader", "e", "I", false)
  | 4 => ("WeaveDraft$Reader", "p", "I", false)
  | 5 => ("WeaveDraft$Reader", "s", "I", false)
  | 6 => ("WeaveDraft$Reader", "t", "I", false)
  | 7 => ("WeaveDraft$Reader", "laid", "I", false)
  | 8 => ("WeaveDraft$Reader", "length", "I", false)
  | 9 => ("WeaveDraft$Reader", "clauses", "[[I", true)
  | 10 => ("WeaveDraft$Reader", "read", "I", false)
  | _ => ("WeaveDraft$Reader", "this$0", "LWeaveDraft;", true)
def tyX6 : Nat → FieldType := fun k => match k with
  | 0 => .int
  | 1 => .int
  | 2 => .object "java/lang/String"
  | 3 => .int
  | 4 => .int
  | 5 => .int
  | 6 => .int
  | 7 => .int
  | 8 => .int
  | 9 => .array (.array .int)
  | 10 => .int
  | _ => .object "WeaveDraft"
abbrev wsX60 : List Cond := u_ws RX6 TX6 12
theorem nmX6 : ∀ a, a < 12 → ∀ b, b < 12 → a ≠ b → (TX6 a).2.1 ≠ (TX6 b).2.1 := by decide +kernel
theorem tyX6_ok : ∀ k, k < 12 → parseFieldDescriptor (TX6 k).2.2.1 = some (tyX6 k) := by decide +kernel
theorem in_X6 : ∀ w ∈ wsX60, w ∈ lw_all := lw_in wsX60 [300, 302, 304, 306, 308, 310, 312, 314, 316, 318, 320, 322] (by decide +kernel) (by decide +kernel)
def RX7 : String := "WeaveDraft$Fault"
def TX7 : u_T := fun k => match k with
  | 0 => ("java/lang/Throwable", "cause", "Ljava/lang/Throwable;", false)
  | 1 => ("java/lang/Throwable", "stackTrace", "[Ljava/lang/StackTraceElement;", false)
  | 2 => ("java/lang/Throwable", "suppressedExceptions", "Ljava/util/List;", false)
  | 3 => ("java/lang/Throwable", "detailMessage", "Ljava/lang/String;", false)
  | 4 => ("java/lang/Throwable", "backtrace", "Ljava/lang/Object;", false)
  | 5 => ("java/lang/Throwable", "depth", "I", false)
  | _ => ("WeaveDraft$Fault", "at", "I", true)
def tyX7 : Nat → FieldType := fun k => match k with
  | 0 => .object "java/lang/Throwable"
  | 1 => .array (.object "java/lang/StackTraceElement")
  | 2 => .object "java/util/List"
  | 3 => .object "java/lang/String"
  | 4 => .object "java/lang/Object"
  | 5 => .int
  | _ => .int
abbrev wsX70 : List Cond := u_ws RX7 TX7 7
theorem nmX7 : ∀ a, a < 7 → ∀ b, b < 7 → a ≠ b → (TX7 a).2.1 ≠ (TX7 b).2.1 := by decide +kernel
theorem tyX7_ok : ∀ k, k < 7 → parseFieldDescriptor (TX7 k).2.2.1 = some (tyX7 k) := by decide +kernel
theorem in_X7 : ∀ w ∈ wsX70, w ∈ lw_all := lw_in wsX70 [616, 618, 620, 622, 624, 667, 661] (by decide +kernel) (by decide +kernel)
def RX8 : String := "WeaveDraft$2"
def TX8 : u_T := fun k => match k with
  | _ => ("WeaveDraft$2", "this$0", "LWeaveDraft;", true)
def tyX8 : Nat → FieldType := fun k => match k with
  | _ => .object "WeaveDraft"
abbrev wsX80 : List Cond := u_ws RX8 TX8 1
theorem nmX8 : ∀ a, a < 1 → ∀ b, b < 1 → a ≠ b → (TX8 a).2.1 ≠ (TX8 b).2.1 := by decide +kernel
theorem tyX8_ok : ∀ k, k < 1 → parseFieldDescriptor (TX8 k).2.2.1 = some (tyX8 k) := by decide +kernel
theorem in_X8 : ∀ w ∈ wsX80, w ∈ lw_all := lw_in wsX80 [874] (by decide +kernel) (by decide +kernel)
def RX9 : String := "WeaveDraft$1"
def TX9 : u_T := fun k => match k with
  | _ => ("WeaveDraft$1", "this$0", "LWeaveDraft;", true)
def tyX9 : Nat → FieldType := fun k => match k with
  | _ => .object "WeaveDraft"
abbrev wsX90 : List Cond := u_ws RX9 TX9 1
theorem nmX9 : ∀ a, a < 1 → ∀ b, b < 1 → a ≠ b → (TX9 a).2.1 ≠ (TX9 b).2.1 := by decide +kernel
theorem tyX9_ok : ∀ k, k < 1 → parseFieldDescriptor (TX9 k).2.2.1 = some (tyX9 k) := by decide +kernel
theorem in_X9 : ∀ w ∈ wsX90, w ∈ lw_all := lw_in wsX90 [912] (by decide +kernel) (by decide +kernel)
def RX10 : String := "WeaveDraft$Spool"
def TX10 : u_T := fun k => match k with
  | 0 => ("WeaveDraft$Spool", "lengths", "[I", true)
  | _ => ("WeaveDraft$Spool", "many", "I", false)
def tyX10 : Nat → FieldType := fun k => match k with
  | 0 => .array .int
  | _ => .int
abbrev wsX100 : List Cond := u_ws RX10 TX10 2
theorem nmX10 : ∀ a, a < 2 → ∀ b, b < 2 → a ≠ b → (TX10 a).2.1 ≠ (TX10 b).2.1 := by decide +kernel
theorem tyX10_ok : ∀ k, k < 2 → parseFieldDescriptor (TX10 k).2.2.1 = some (tyX10 k) := by decide +kernel
theorem in_X10 : ∀ w ∈ wsX100, w ∈ lw_all := lw_in wsX100 [994, 996] (by decide +kernel) (by decide +kernel)
def RX11 : String := "WeaveDraft$Spool$Unwinding"
def TX11 : u_T := fun k => match k with
  | 0 => ("WeaveDraft$Spool$Unwinding", "left", "I", false)
  | _ => ("WeaveDraft$Spool$Unwinding", "this$0", "LWeaveDraft$Spool;", true)
def tyX11 : Nat → FieldType := fun k => match k with
  | 0 => .int
  | _ => .object "WeaveDraft$Spool"
abbrev wsX110 : List Cond := u_ws RX11 TX11 2
theorem nmX11 : ∀ a, a < 2 → ∀ b, b < 2 → a ≠ b → (TX11 a).2.1 ≠ (TX11 b).2.1 := by decide +kernel
theorem tyX11_ok : ∀ k, k < 2 → parseFieldDescriptor (TX11 k).2.2.1 = some (tyX11 k) := by decide +kernel
theorem in_X11 : ∀ w ∈ wsX110, w ∈ lw_all := lw_in wsX110 [1025, 1027] (by decide +kernel) (by decide +kernel)
def RX12 : String := "WeaveDraft$Look"
def RJ0 : String := "java/lang/AbstractStringBuilder"
def RJ1 : String := "java/lang/StringBuilder"
def TJ1 : u_T := fun k => match k with
  | 0 => ("java/lang/AbstractStringBuilder", "value", "[B", false)
  | 1 => ("java/lang/AbstractStringBuilder", "coder", "B", false)
  | 2 => ("java/lang/AbstractStringBuilder", "maybeLatin1", "Z", false)
  | _ => ("java/lang/AbstractStringBuilder", "count", "I", false)
def tyJ1 : Nat → FieldType := fun k => match k with
  | 0 => .array .byte
  | 1 => .byte
  | 2 => .boolean
  | _ => .int
abbrev wsJ10 : List Cond := u_ws RJ1 TJ1 4
theorem nmJ1 : ∀ a, a < 4 → ∀ b, b < 4 → a ≠ b → (TJ1 a).2.1 ≠ (TJ1 b).2.1 := by decide +kernel
theorem tyJ1_ok : ∀ k, k < 4 → parseFieldDescriptor (TJ1 k).2.2.1 = some (tyJ1 k) := by decide +kernel
theorem in_J1 : ∀ w ∈ wsJ10, w ∈ lw_all := lw_in wsJ10 [368, 370, 372, 374] (by decide +kernel) (by decide +kernel)
def RJ2 : String := "java/lang/String"
def TJ2 : u_T := fun k => match k with
  | 0 => ("java/lang/String", "value", "[B", true)
  | 1 => ("java/lang/String", "coder", "B", true)
  | 2 => ("java/lang/String", "hash", "I", false)
  | _ => ("java/lang/String", "hashIsZero", "Z", false)
def tyJ2 : Nat → FieldType := fun k => match k with
  | 0 => .array .byte
  | 1 => .byte
  | 2 => .int
  | _ => .boolean
abbrev wsJ20 : List Cond := u_ws RJ2 TJ2 4
theorem nmJ2 : ∀ a, a < 4 → ∀ b, b < 4 → a ≠ b → (TJ2 a).2.1 ≠ (TJ2 b).2.1 := by decide +kernel
theorem tyJ2_ok : ∀ k, k < 4 → parseFieldDescriptor (TJ2 k).2.2.1 = some (tyJ2 k) := by decide +kernel
theorem in_J2 : ∀ w ∈ wsJ20, w ∈ lw_all := lw_in wsJ20 [524, 526, 528, 530] (by decide +kernel) (by decide +kernel)
def RJ3 : String := "java/lang/StringUTF16"
def RJ4 : String := "jdk/internal/util/ArraysSupport"
def RJ5 : String := "java/lang/Math"
def RJ6 : String := "java/util/Arrays"
def RJ7 : String := "java/lang/StringLatin1"
def RJ8 : String := "jdk/internal/util/Preconditions"
def RJ9 : String := "java/util/AbstractCollection"
def RJ10 : String := "java/util/AbstractList"
def RJ11 : String := "java/util/Arrays$ArrayList"
def TJ11 : u_T := fun k => match k with
  | 0 => ("java/util/AbstractList", "modCount", "I", false)
  | _ => ("java/util/Arrays$ArrayList", "a", "[Ljava/lang/Object;", true)
def tyJ11 : Nat → FieldType := fun k => match k with
  | 0 => .int
  | _ => .array (.object "java/lang/Object")
abbrev wsJ110 : List Cond := u_ws RJ11 TJ11 2
theorem nmJ11 : ∀ a, a < 2 → ∀ b, b < 2 → a ≠ b → (TJ11 a).2.1 ≠ (TJ11 b).2.1 := by decide +kernel
theorem tyJ11_ok : ∀ k, k < 2 → parseFieldDescriptor (TJ11 k).2.2.1 = some (tyJ11 k) := by decide +kernel
theorem in_J11 : ∀ w ∈ wsJ110, w ∈ lw_all := lw_in wsJ110 [558, 556] (by decide +kernel) (by decide +kernel)
def RJ12 : String := "java/util/Objects"
def RJ13 : String := "java/lang/Throwable"
def TJ13 : u_T := fun k => match k with
  | 0 => ("java/lang/Throwable", "cause", "Ljava/lang/Throwable;", false)
  | 1 => ("java/lang/Throwable", "stackTrace", "[Ljava/lang/StackTraceElement;", false)
  | 2 => ("java/lang/Throwable", "suppressedExceptions", "Ljava/util/List;", false)
  | 3 => ("java/lang/Throwable", "detailMessage", "Ljava/lang/String;", false)
  | _ => ("java/lang/Throwable", "backtrace", "Ljava/lang/Object;", false)
def tyJ13 : Nat → FieldType := fun k => match k with
  | 0 => .object "java/lang/Throwable"
  | 1 => .array (.object "java/lang/StackTraceElement")
  | 2 => .object "java/util/List"
  | 3 => .object "java/lang/String"
  | _ => .object "java/lang/Object"
abbrev wsJ130 : List Cond := u_ws RJ13 TJ13 5
theorem nmJ13 : ∀ a, a < 5 → ∀ b, b < 5 → a ≠ b → (TJ13 a).2.1 ≠ (TJ13 b).2.1 := by decide +kernel
theorem tyJ13_ok : ∀ k, k < 5 → parseFieldDescriptor (TJ13 k).2.2.1 = some (tyJ13 k) := by decide +kernel
theorem in_J13 : ∀ w ∈ wsJ130, w ∈ lw_all := lw_in wsJ130 [617, 619, 621, 623, 625] (by decide +kernel) (by decide +kernel)
def RJ14 : String := "java/lang/Exception"
def RJ15 : String := "java/lang/RuntimeException"
def RJ16 : String := "java/util/NoSuchElementException"
def TJ16 : u_T := fun k => match k with
  | 0 => ("java/lang/Throwable", "cause", "Ljava/lang/Throwable;", false)
  | 1 => ("java/lang/Throwable", "stackTrace", "[Ljava/lang/StackTraceElement;", false)
  | 2 => ("java/lang/Throwable", "suppressedExceptions", "Ljava/util/List;", false)
  | 3 => ("java/lang/Throwable", "detailMessage", "Ljava/lang/String;", false)
  | 4 => ("java/lang/Throwable", "backtrace", "Ljava/lang/Object;", false)
  | _ => ("java/lang/Throwable", "depth", "I", false)
def tyJ16 : Nat → FieldType := fun k => match k with
  | 0 => .object "java/lang/Throwable"
  | 1 => .array (.object "java/lang/StackTraceElement")
  | 2 => .object "java/util/List"
  | 3 => .object "java/lang/String"
  | 4 => .object "java/lang/Object"
  | _ => .int
abbrev wsJ160 : List Cond := u_ws RJ16 TJ16 6
theorem nmJ16 : ∀ a, a < 6 → ∀ b, b < 6 → a ≠ b → (TJ16 a).2.1 ≠ (TJ16 b).2.1 := by decide +kernel
theorem tyJ16_ok : ∀ k, k < 6 → parseFieldDescriptor (TJ16 k).2.2.1 = some (tyJ16 k) := by decide +kernel
theorem in_J16 : ∀ w ∈ wsJ160, w ∈ lw_all := lw_in wsJ160 [1059, 1060, 1061, 1062, 1063, 1074] (by decide +kernel) (by decide +kernel)
def RJ17 : String := "java/lang/Number"
def RJ18 : String := "java/lang/Integer"
def TJ18 : u_T := fun k => match k with
  | _ => ("java/lang/Integer", "value", "I", true)
def tyJ18 : Nat → FieldType := fun k => match k with
  | _ => .int
abbrev wsJ180 : List Cond := u_ws RJ18 TJ18 1
theorem nmJ18 : ∀ a, a < 1 → ∀ b, b < 1 → a ≠ b → (TJ18 a).2.1 ≠ (TJ18 b).2.1 := by decide +kernel
theorem tyJ18_ok : ∀ k, k < 1 → parseFieldDescriptor (TJ18 k).2.2.1 = some (tyJ18 k) := by decide +kernel
theorem in_J18 : ∀ w ∈ wsJ180, w ∈ lw_all := lw_in wsJ180 [1092] (by decide +kernel) (by decide +kernel)
def RJ19 : String := "java/lang/Object"
abbrev vwCl : List vw_C := [(RX0, TX0, 11), (RX1, TX1, 8), (RX3, TX3, 4), (RX4, TX4, 4), (RX5, TX5, 18), (RX6, TX6, 12), (RX7, TX7, 7), (RX8, TX8, 1), (RX9, TX9, 1), (RX10, TX10, 2), (RX11, TX11, 2), (RJ1, TJ1, 4), (RJ2, TJ2, 4), (RJ11, TJ11, 2), (RJ18, TJ18, 1)]
-- class 0: X0 (11 fields)
-- class 1: X1 (8 fields)
-- class 2: X3 (4 fields)
-- class 3: X4 (4 fields)
-- class 4: X5 (18 fields)
-- class 5: X6 (12 fields)
-- class 6: X7 (7 fields)
-- class 7: X8 (1 fields)
-- class 8: X9 (1 fields)
-- class 9: X10 (2 fields)
-- class 10: X11 (2 fields)
-- class 11: J1 (4 fields)
-- class 12: J2 (4 fields)
-- class 13: J11 (2 fields)
-- class 14: J18 (1 fields)
