set_option maxRecDepth 100000
/-! java/util/AbstractCollection -/
def RJ0 : String := "java/util/AbstractCollection"
/-! java/util/AbstractList -/
def RJ1 : String := "java/util/AbstractList"
/-! java/lang/RuntimeException -/
def RJ10 : String := "java/lang/RuntimeException"
/-! jdk/internal/util/ArraysSupport -/
def RJ11 : String := "jdk/internal/util/ArraysSupport"
/-! java/util/Arrays -/
def RJ12 : String := "java/util/Arrays"
/-! java/util/ArrayList$Itr -/
def RJ13 : String := "java/util/ArrayList$Itr"
def TJ13 : u_T := fun k => match k with
  | 0 => ("java/util/ArrayList$Itr", "cursor", "I", false)
  | 1 => ("java/util/ArrayList$Itr", "lastRet", "I", false)
  | 2 => ("java/util/ArrayList$Itr", "expectedModCount", "I", false)
  | _ => ("java/util/ArrayList$Itr", "this$0", "Ljava/util/ArrayList;", true)
def tyJ13 : Nat → FieldType := fun k => match k with
  | 0 => .int
  | 1 => .int
  | 2 => .int
  | _ => .object "java/util/ArrayList"
abbrev wsJ130 : List Cond := u_ws RJ13 TJ13 4
theorem nmJ13 : ∀ a, a < 4 → ∀ b, b < 4 → a ≠ b → (TJ13 a).2.1 ≠ (TJ13 b).2.1 := by decide +kernel
theorem tyJ13_ok : ∀ k, k < 4 → parseFieldDescriptor (TJ13 k).2.2.1 = some (tyJ13 k) := by decide +kernel
/-! java/util/Objects -/
def RJ14 : String := "java/util/Objects"
/-! java/lang/Integer -/
def RJ15 : String := "java/lang/Integer"
/-! java/lang/NegativeArraySizeException -/
def RJ16 : String := "java/lang/NegativeArraySizeException"
def TJ16 : u_T := fun k => match k with
  | 0 => ("java/lang/Throwable", "backtrace", "Ljava/lang/Object;", false)
  | 1 => ("java/lang/Throwable", "detailMessage", "Ljava/lang/String;", false)
  | 2 => ("java/lang/Throwable", "cause", "Ljava/lang/Throwable;", false)
  | 3 => ("java/lang/Throwable", "stackTrace", "[Ljava/lang/StackTraceElement;", false)
  | 4 => ("java/lang/Throwable", "depth", "I", false)
  | _ => ("java/lang/Throwable", "suppressedExceptions", "Ljava/util/List;", false)
def tyJ16 : Nat → FieldType := fun k => match k with
  | 0 => .object "java/lang/Object"
  | 1 => .object "java/lang/String"
  | 2 => .object "java/lang/Throwable"
  | 3 => .array (.object "java/lang/StackTraceElement")
  | 4 => .int
  | _ => .object "java/util/List"
abbrev wsJ160 : List Cond := u_ws RJ16 TJ16 6
theorem nmJ16 : ∀ a, a < 6 → ∀ b, b < 6 → a ≠ b → (TJ16 a).2.1 ≠ (TJ16 b).2.1 := by decide +kernel
theorem tyJ16_ok : ∀ k, k < 6 → parseFieldDescriptor (TJ16 k).2.2.1 = some (tyJ16 k) := by decide +kernel
/-! java/lang/NullPointerException -/
def RJ17 : String := "java/lang/NullPointerException"
def TJ17 : u_T := fun k => match k with
  | 0 => ("java/lang/Throwable", "backtrace", "Ljava/lang/Object;", false)
  | 1 => ("java/lang/Throwable", "detailMessage", "Ljava/lang/String;", false)
  | 2 => ("java/lang/Throwable", "cause", "Ljava/lang/Throwable;", false)
  | 3 => ("java/lang/Throwable", "stackTrace", "[Ljava/lang/StackTraceElement;", false)
  | 4 => ("java/lang/Throwable", "depth", "I", false)
  | 5 => ("java/lang/Throwable", "suppressedExceptions", "Ljava/util/List;", false)
  | 6 => ("java/lang/NullPointerException", "extendedMessageState", "I", false)
  | _ => ("java/lang/NullPointerException", "extendedMessage", "Ljava/lang/String;", false)
def tyJ17 : Nat → FieldType := fun k => match k with
  | 0 => .object "java/lang/Object"
  | 1 => .object "java/lang/String"
  | 2 => .object "java/lang/Throwable"
  | 3 => .array (.object "java/lang/StackTraceElement")
  | 4 => .int
  | 5 => .object "java/util/List"
  | 6 => .int
  | _ => .object "java/lang/String"
abbrev wsJ170 : List Cond := u_ws RJ17 TJ17 8
theorem nmJ17 : ∀ a, a < 8 → ∀ b, b < 8 → a ≠ b → (TJ17 a).2.1 ≠ (TJ17 b).2.1 := by decide +kernel
theorem tyJ17_ok : ∀ k, k < 8 → parseFieldDescriptor (TJ17 k).2.2.1 = some (tyJ17 k) := by decide +kernel
/-! java/lang/IndexOutOfBoundsException -/
def RJ18 : String := "java/lang/IndexOutOfBoundsException"
/-! java/lang/ArrayIndexOutOfBoundsException -/
def RJ19 : String := "java/lang/ArrayIndexOutOfBoundsException"
def TJ19 : u_T := fun k => match k with
  | 0 => ("java/lang/Throwable", "backtrace", "Ljava/lang/Object;", false)
  | 1 => ("java/lang/Throwable", "detailMessage", "Ljava/lang/String;", false)
  | 2 => ("java/lang/Throwable", "cause", "Ljava/lang/Throwable;", false)
  | 3 => ("java/lang/Throwable", "stackTrace", "[Ljava/lang/StackTraceElement;", false)
  | 4 => ("java/lang/Throwable", "depth", "I", false)
  | _ => ("java/lang/Throwable", "suppressedExceptions", "Ljava/util/List;", false)
def tyJ19 : Nat → FieldType := fun k => match k with
  | 0 => .object "java/lang/Object"
  | 1 => .object "java/lang/String"
  | 2 => .object "java/lang/Throwable"
  | 3 => .array (.object "java/lang/StackTraceElement")
  | 4 => .int
  | _ => .object "java/util/List"
abbrev wsJ190 : List Cond := u_ws RJ19 TJ19 6
theorem nmJ19 : ∀ a, a < 6 → ∀ b, b < 6 → a ≠ b → (TJ19 a).2.1 ≠ (TJ19 b).2.1 := by decide +kernel
theorem tyJ19_ok : ∀ k, k < 6 → parseFieldDescriptor (TJ19 k).2.2.1 = some (tyJ19 k) := by decide +kernel
/-! java/util/ArrayList -/
def RJ2 : String := "java/util/ArrayList"
def TJ2 : u_T := fun k => match k with
  | 0 => ("java/util/AbstractList", "modCount", "I", false)
  | 1 => ("java/util/ArrayList", "elementData", "[Ljava/lang/Object;", false)
  | _ => ("java/util/ArrayList", "size", "I", false)
def tyJ2 : Nat → FieldType := fun k => match k with
  | 0 => .int
  | 1 => .array (.object "java/lang/Object")
  | _ => .int
abbrev wsJ20 : List Cond := u_ws RJ2 TJ2 3
theorem nmJ2 : ∀ a, a < 3 → ∀ b, b < 3 → a ≠ b → (TJ2 a).2.1 ≠ (TJ2 b).2.1 := by decide +kernel
theorem tyJ2_ok : ∀ k, k < 3 → parseFieldDescriptor (TJ2 k).2.2.1 = some (tyJ2 k) := by decide +kernel
/-! java/lang/ClassCastException -/
def RJ20 : String := "java/lang/ClassCastException"
def TJ20 : u_T := fun k => match k with
  | 0 => ("java/lang/Throwable", "backtrace", "Ljava/lang/Object;", false)
  | 1 => ("java/lang/Throwable", "detailMessage", "Ljava/lang/String;", false)
  | 2 => ("java/lang/Throwable", "cause", "Ljava/lang/Throwable;", false)
  | 3 => ("java/lang/Throwable", "stackTrace", "[Ljava/lang/StackTraceElement;", false)
  | 4 => ("java/lang/Throwable", "depth", "I", false)
  | _ => ("java/lang/Throwable", "suppressedExceptions", "Ljava/util/List;", false)
def tyJ20 : Nat → FieldType := fun k => match k with
  | 0 => .object "java/lang/Object"
  | 1 => .object "java/lang/String"
  | 2 => .object "java/lang/Throwable"
  | 3 => .array (.object "java/lang/StackTraceElement")
  | 4 => .int
  | _ => .object "java/util/List"
abbrev wsJ200 : List Cond := u_ws RJ20 TJ20 6
theorem nmJ20 : ∀ a, a < 6 → ∀ b, b < 6 → a ≠ b → (TJ20 a).2.1 ≠ (TJ20 b).2.1 := by decide +kernel
theorem tyJ20_ok : ∀ k, k < 6 → parseFieldDescriptor (TJ20 k).2.2.1 = some (tyJ20 k) := by decide +kernel
/-! java/lang/Object -/
def RJ21 : String := "java/lang/Object"
/-! java/lang/Math -/
def RJ3 : String := "java/lang/Math"
/-! java/lang/String -/
def RJ4 : String := "java/lang/String"
def TJ4 : u_T := fun k => match k with
  | 0 => ("java/lang/String", "value", "[B", true)
  | _ => ("java/lang/String", "coder", "B", true)
def tyJ4 : Nat → FieldType := fun k => match k with
  | 0 => .array .byte
  | _ => .byte
abbrev wsJ40 : List Cond := u_ws RJ4 TJ4 2
theorem nmJ4 : ∀ a, a < 2 → ∀ b, b < 2 → a ≠ b → (TJ4 a).2.1 ≠ (TJ4 b).2.1 := by decide +kernel
theorem tyJ4_ok : ∀ k, k < 2 → parseFieldDescriptor (TJ4 k).2.2.1 = some (tyJ4 k) := by decide +kernel
/-! java/lang/StringLatin1 -/
def RJ5 : String := "java/lang/StringLatin1"
/-! jdk/internal/util/Preconditions -/
def RJ6 : String := "jdk/internal/util/Preconditions"
/-! java/lang/StringUTF16 -/
def RJ7 : String := "java/lang/StringUTF16"
/-! java/lang/Throwable -/
def RJ8 : String := "java/lang/Throwable"
def TJ8 : u_T := fun k => match k with
  | 0 => ("java/lang/Throwable", "cause", "Ljava/lang/Throwable;", false)
  | 1 => ("java/lang/Throwable", "stackTrace", "[Ljava/lang/StackTraceElement;", false)
  | 2 => ("java/lang/Throwable", "suppressedExceptions", "Ljava/util/List;", false)
  | 3 => ("java/lang/Throwable", "detailMessage", "Ljava/lang/String;", false)
  | _ => ("java/lang/Throwable", "backtrace", "Ljava/lang/Object;", false)
def tyJ8 : Nat → FieldType := fun k => match k with
  | 0 => .object "java/lang/Throwable"
  | 1 => .array (.object "java/lang/StackTraceElement")
  | 2 => .object "java/util/List"
  | 3 => .object "java/lang/String"
  | _ => .object "java/lang/Object"
abbrev wsJ80 : List Cond := u_ws RJ8 TJ8 5
theorem nmJ8 : ∀ a, a < 5 → ∀ b, b < 5 → a ≠ b → (TJ8 a).2.1 ≠ (TJ8 b).2.1 := by decide +kernel
theorem tyJ8_ok : ∀ k, k < 5 → parseFieldDescriptor (TJ8 k).2.2.1 = some (tyJ8 k) := by decide +kernel
/-! java/lang/Exception -/
def RJ9 : String := "java/lang/Exception"
/-! QuotedRiver -/
def RX0 : String := "QuotedRiver"
def TX0 : u_T := fun k => match k with
  | 0 => ("QuotedRiver", "slots", "[LQuotedRiver$Slot;", true)
  | 1 => ("QuotedRiver", "now", "LQuotedRiver$Rivers;", false)
  | 2 => ("QuotedRiver", "images", "[LQuotedRiver$Rivers;", true)
  | 3 => ("QuotedRiver", "tape", "[B", true)
  | 4 => ("QuotedRiver", "taped", "I", false)
  | 5 => ("QuotedRiver", "faultKind", "I", false)
  | 6 => ("QuotedRiver", "faultPlace", "I", false)
  | 7 => ("QuotedRiver", "water", "LQuotedRiver$Water;", true)
  | 8 => ("QuotedRiver", "stick", "LQuotedRiver$Stick;", true)
  | 9 => ("QuotedRiver", "other", "LQuotedRiver$Stick;", true)
  | 10 => ("QuotedRiver", "quickAt", "I", false)
  | 11 => ("QuotedRiver", "seen", "LQuotedRiver$Seen;", true)
  | 12 => ("QuotedRiver", "turnFirst", "I", false)
  | 13 => ("QuotedRiver", "likely", "[J", true)
  | _ => ("QuotedRiver", "next", "[J", true)
def tyX0 : Nat → FieldType := fun k => match k with
  | 0 => .array (.object "QuotedRiver$Slot")
  | 1 => .object "QuotedRiver$Rivers"
  | 2 => .array (.object "QuotedRiver$Rivers")
  | 3 => .array .byte
  | 4 => .int
  | 5 => .int
  | 6 => .int
  | 7 => .object "QuotedRiver$Water"
  | 8 => .object "QuotedRiver$Stick"
  | 9 => .object "QuotedRiver$Stick"
  | 10 => .int
  | 11 => .object "QuotedRiver$Seen"
  | 12 => .int
  | 13 => .array .long
  | _ => .array .long
abbrev wsX00 : List Cond := u_ws RX0 TX0 15
set_option maxRecDepth 100000 in
theorem nmX0 : ∀ a, a < 15 → ∀ b, b < 15 → a ≠ b → (TX0 a).2.1 ≠ (TX0 b).2.1 := by decide +kernel
set_option maxRecDepth 100000 in
theorem tyX0_ok : ∀ k, k < 15 → parseFieldDescriptor (TX0 k).2.2.1 = some (tyX0 k) := by decide +kernel
/-! QuotedRiver$Slot -/
def RX1 : String := "QuotedRiver$Slot"
def TX1 : u_T := fun k => match k with
  | _ => ("QuotedRiver$Slot", "held", "Ljava/lang/Object;", false)
def tyX1 : Nat → FieldType := fun k => match k with
  | _ => .object "java/lang/Object"
abbrev wsX10 : List Cond := u_ws RX1 TX1 1
theorem nmX1 : ∀ a, a < 1 → ∀ b, b < 1 → a ≠ b → (TX1 a).2.1 ≠ (TX1 b).2.1 := by decide +kernel
theorem tyX1_ok : ∀ k, k < 1 → parseFieldDescriptor (TX1 k).2.2.1 = some (tyX1 k) := by decide +kernel
/-! QuotedRiver$Join -/
def RX10 : String := "QuotedRiver$Join"
def TX10 : u_T := fun k => match k with
  | 0 => ("QuotedRiver$Join", "from", "I", false)
  | 1 => ("QuotedRiver$Join", "to", "I", false)
  | 2 => ("QuotedRiver$Join", "each", "I", false)
  | _ => ("QuotedRiver$Join", "at", "I", false)
def tyX10 : Nat → FieldType := fun k => match k with
  | 0 => .int
  | 1 => .int
  | 2 => .int
  | _ => .int
abbrev wsX100 : List Cond := u_ws RX10 TX10 4
theorem nmX10 : ∀ a, a < 4 → ∀ b, b < 4 → a ≠ b → (TX10 a).2.1 ≠ (TX10 b).2.1 := by decide +kernel
theorem tyX10_ok : ∀ k, k < 4 → parseFieldDescriptor (TX10 k).2.2.1 = some (tyX10 k) := by decide +kernel
/-! QuotedRiver$Rain -/
def RX11 : String := "QuotedRiver$Rain"
def TX11 : u_T := fun k => match k with
  | 0 => ("QuotedRiver$Rain", "n", "I", true)
  | _ => ("QuotedRiver$Rain", "step", "I", true)
def tyX11 : Nat → FieldType := fun k => match k with
  | 0 => .int
  | _ => .int
abbrev wsX110 : List Cond := u_ws RX11 TX11 2
theorem nmX11 : ∀ a, a < 2 → ∀ b, b < 2 → a ≠ b → (TX11 a).2.1 ≠ (TX11 b).2.1 := by decide +kernel
theorem tyX11_ok : ∀ k, k < 2 → parseFieldDescriptor (TX11 k).2.2.1 = some (tyX11 k) := by decide +kernel
/-! QuotedRiver$Act -/
def RX12 : String := "QuotedRiver$Act"
def TX12 : u_T := fun k => match k with
  | 0 => ("QuotedRiver$Act", "join", "I", true)
  | 1 => ("QuotedRiver$Act", "on", "I", true)
  | _ => ("QuotedRiver$Act", "rain", "LQuotedRiver$Rain;", true)
def tyX12 : Nat → FieldType := fun k => match k with
  | 0 => .int
  | 1 => .int
  | _ => .object "QuotedRiver$Rain"
abbrev wsX120 : List Cond := u_ws RX12 TX12 3
theorem nmX12 : ∀ a, a < 3 → ∀ b, b < 3 → a ≠ b → (TX12 a).2.1 ≠ (TX12 b).2.1 := by decide +kernel
theorem tyX12_ok : ∀ k, k < 3 → parseFieldDescriptor (TX12 k).2.2.1 = some (tyX12 k) := by decide +kernel
/-! QuotedRiver$Rivers -/
def RX2 : String := "QuotedRiver$Rivers"
def TX2 : u_T := fun k => match k with
  | 0 => ("QuotedRiver$Rivers", "reaches", "Ljava/util/List;", true)
  | 1 => ("QuotedRiver$Rivers", "joins", "Ljava/util/List;", true)
  | 2 => ("QuotedRiver$Rivers", "rains", "Ljava/util/List;", true)
  | 3 => ("QuotedRiver$Rivers", "acts", "Ljava/util/List;", true)
  | 4 => ("QuotedRiver$Rivers", "level", "I", false)
  | 5 => ("QuotedRiver$Rivers", "odds", "I", false)
  | 6 => ("QuotedRiver$Rivers", "swell", "I", false)
  | _ => ("QuotedRiver$Rivers", "lines", "I", false)
def tyX2 : Nat → FieldType := fun k => match k with
  | 0 => .object "java/util/List"
  | 1 => .object "java/util/List"
  | 2 => .object "java/util/List"
  | 3 => .object "java/util/List"
  | 4 => .int
  | 5 => .int
  | 6 => .int
  | _ => .int
abbrev wsX20 : List Cond := u_ws RX2 TX2 8
theorem nmX2 : ∀ a, a < 8 → ∀ b, b < 8 → a ≠ b → (TX2 a).2.1 ≠ (TX2 b).2.1 := by decide +kernel
theorem tyX2_ok : ∀ k, k < 8 → parseFieldDescriptor (TX2 k).2.2.1 = some (tyX2 k) := by decide +kernel
/-! QuotedRiver$Water -/
def RX3 : String := "QuotedRiver$Water"
def TX3 : u_T := fun k => match k with
  | 0 => ("QuotedRiver$Water", "level", "[I", true)
  | 1 => ("QuotedRiver$Water", "told", "[I", true)
  | 2 => ("QuotedRiver$Water", "shut", "I", false)
  | 3 => ("QuotedRiver$Water", "stopped", "I", false)
  | 4 => ("QuotedRiver$Water", "turned", "I", false)
  | 5 => ("QuotedRiver$Water", "each", "I", false)
  | 6 => ("QuotedRiver$Water", "at", "I", false)
  | 7 => ("QuotedRiver$Water", "swelled", "I", false)
  | _ => ("QuotedRiver$Water", "this$0", "LQuotedRiver;", true)
def tyX3 : Nat → FieldType := fun k => match k with
  | 0 => .array .int
  | 1 => .array .int
  | 2 => .int
  | 3 => .int
  | 4 => .int
  | 5 => .int
  | 6 => .int
  | 7 => .int
  | _ => .object "QuotedRiver"
abbrev wsX30 : List Cond := u_ws RX3 TX3 9
theorem nmX3 : ∀ a, a < 9 → ∀ b, b < 9 → a ≠ b → (TX3 a).2.1 ≠ (TX3 b).2.1 := by decide +kernel
theorem tyX3_ok : ∀ k, k < 9 → parseFieldDescriptor (TX3 k).2.2.1 = some (tyX3 k) := by decide +kernel
/-! QuotedRiver$Stick -/
def RX4 : String := "QuotedRiver$Stick"
def TX4 : u_T := fun k => match k with
  | 0 => ("QuotedRiver$Stick", "at", "[I", true)
  | 1 => ("QuotedRiver$Stick", "from", "I", false)
  | 2 => ("QuotedRiver$Stick", "left", "I", false)
  | 3 => ("QuotedRiver$Stick", "jumped", "I", false)
  | 4 => ("QuotedRiver$Stick", "waited", "I", false)
  | 5 => ("QuotedRiver$Stick", "joins", "I", false)
  | 6 => ("QuotedRiver$Stick", "back", "I", false)
  | 7 => ("QuotedRiver$Stick", "come", "I", false)
  | _ => ("QuotedRiver$Stick", "this$0", "LQuotedRiver;", true)
def tyX4 : Nat → FieldType := fun k => match k with
  | 0 => .array .int
  | 1 => .int
  | 2 => .int
  | 3 => .int
  | 4 => .int
  | 5 => .int
  | 6 => .int
  | 7 => .int
  | _ => .object "QuotedRiver"
abbrev wsX40 : List Cond := u_ws RX4 TX4 9
theorem nmX4 : ∀ a, a < 9 → ∀ b, b < 9 → a ≠ b → (TX4 a).2.1 ≠ (TX4 b).2.1 := by decide +kernel
theorem tyX4_ok : ∀ k, k < 9 → parseFieldDescriptor (TX4 k).2.2.1 = some (tyX4 k) := by decide +kernel
/-! QuotedRiver$Seen -/
def RX5 : String := "QuotedRiver$Seen"
def TX5 : u_T := fun k => match k with
  | 0 => ("QuotedRiver$Seen", "often", "[I", true)
  | 1 => ("QuotedRiver$Seen", "many", "I", false)
  | 2 => ("QuotedRiver$Seen", "reaches", "I", false)
  | 3 => ("QuotedRiver$Seen", "first", "I", false)
  | 4 => ("QuotedRiver$Seen", "best", "I", false)
  | 5 => ("QuotedRiver$Seen", "leaves", "I", false)
  | _ => ("QuotedRiver$Seen", "this$0", "LQuotedRiver;", true)
def tyX5 : Nat → FieldType := fun k => match k with
  | 0 => .array .int
  | 1 => .int
  | 2 => .int
  | 3 => .int
  | 4 => .int
  | 5 => .int
  | _ => .object "QuotedRiver"
abbrev wsX50 : List Cond := u_ws RX5 TX5 7
theorem nmX5 : ∀ a, a < 7 → ∀ b, b < 7 → a ≠ b → (TX5 a).2.1 ≠ (TX5 b).2.1 := by decide +kernel
theorem tyX5_ok : ∀ k, k < 7 → parseFieldDescriptor (TX5 k).2.2.1 = some (tyX5 k) := by decide +kernel
/-! QuotedRiverModel -/
def RX6 : String := "QuotedRiverModel"
def TX6 : u_T := fun k => match k with
  | 0 => ("QuotedRiverModel", "thrown", "I", false)
  | 1 => ("QuotedRiverModel", "world", "[I", true)
  | 2 => ("QuotedRiverModel", "images", "[I", true)
  | 3 => ("QuotedRiverModel", "hasImage", "[Z", true)
  | 4 => ("QuotedRiverModel", "tape", "[B", true)
  | 5 => ("QuotedRiverModel", "taped", "I", false)
  | 6 => ("QuotedRiverModel", "five", "[I", true)
  | 7 => ("QuotedRiverModel", "size", "I", false)
  | 8 => ("QuotedRiverModel", "at", "I", false)
  | 9 => ("QuotedRiverModel", "from", "I", false)
  | 10 => ("QuotedRiverModel", "token", "I", false)
  | 11 => ("QuotedRiverModel", "value", "I", false)
  | 12 => ("QuotedRiverModel", "faultKind", "I", false)
  | 13 => ("QuotedRiverModel", "faultPlace", "I", false)
  | 14 => ("QuotedRiverModel", "fresh", "[I", true)
  | 15 => ("QuotedRiverModel", "rainAt", "[I", true)
  | 16 => ("QuotedRiverModel", "levelAt", "[I", true)
  | 17 => ("QuotedRiverModel", "standsAt", "[I", true)
  | 18 => ("QuotedRiverModel", "eachOf", "[I", true)
  | 19 => ("QuotedRiverModel", "turnOf", "[I", true)
  | 20 => ("QuotedRiverModel", "shutSet", "I", false)
  | 21 => ("QuotedRiverModel", "stopped", "I", false)
  | 22 => ("QuotedRiverModel", "whereAt", "[I", true)
  | 23 => ("QuotedRiverModel", "arrives", "[Z", true)
  | 24 => ("QuotedRiverModel", "leftMany", "I", false)
  | 25 => ("QuotedRiverModel", "joinMany", "I", false)
  | 26 => ("QuotedRiverModel", "joinSet", "I", false)
  | 27 => ("QuotedRiverModel", "wasAt", "[I", true)
  | 28 => ("QuotedRiverModel", "manyIn", "[I", true)
  | 29 => ("QuotedRiverModel", "quickFrom", "I", false)
  | 30 => ("QuotedRiverModel", "pairs", "[I", true)
  | 31 => ("QuotedRiverModel", "wasBy", "[B", true)
  | 32 => ("QuotedRiverModel", "pairMany", "I", false)
  | 33 => ("QuotedRiverModel", "askWorst", "I", false)
  | 34 => ("QuotedRiverModel", "turnFirst", "I", false)
  | 35 => ("QuotedRiverModel", "weightNow", "[J", true)
  | 36 => ("QuotedRiverModel", "weightThen", "[J", true)
  | 37 => ("QuotedRiverModel", "rainMany", "I", false)
  | 38 => ("QuotedRiverModel", "many", "[I", true)
  | 39 => ("QuotedRiverModel", "width", "[I", true)
  | 40 => ("QuotedRiverModel", "numbers", "[J", true)
  | _ => ("QuotedRiverModel", "moving", "[J", true)
def tyX6 : Nat → FieldType := fun k => match k with
  | 0 => .int
  | 1 => .array .int
  | 2 => .array .int
  | 3 => .array .boolean
  | 4 => .array .byte
  | 5 => .int
  | 6 => .array .int
  | 7 => .int
  | 8 => .int
  | 9 => .int
  | 10 => .int
  | 11 => .int
  | 12 => .int
  | 13 => .int
  | 14 => .array .int
  | 15 => .array .int
  | 16 => .array .int
  | 17 => .array .int
  | 18 => .array .int
  | 19 => .array .int
  | 20 => .int
  | 21 => .int
  | 22 => .array .int
  | 23 => .array .boolean
  | 24 => .int
  | 25 => .int
  | 26 => .int
  | 27 => .array .int
  | 28 => .array .int
  | 29 => .int
  | 30 => .array .int
  | 31 => .array .byte
  | 32 => .int
  | 33 => .int
  | 34 => .int
  | 35 => .array .long
  | 36 => .array .long
  | 37 => .int
  | 38 => .array .int
  | 39 => .array .int
  | 40 => .array .long
  | _ => .array .long
abbrev wsX60 : List Cond := u_ws RX6 TX6 42
set_option maxRecDepth 100000 in
theorem nmX6 : ∀ a, a < 42 → ∀ b, b < 42 → a ≠ b → (TX6 a).2.1 ≠ (TX6 b).2.1 := by decide +kernel
set_option maxRecDepth 100000 in
theorem tyX6_ok : ∀ k, k < 42 → parseFieldDescriptor (TX6 k).2.2.1 = some (tyX6 k) := by decide +kernel
/-! QuotedRiver$Reader -/
def RX7 : String := "QuotedRiver$Reader"
def TX7 : u_T := fun k => match k with
  | 0 => ("QuotedRiver$Reader", "text", "[B", true)
  | 1 => ("QuotedRiver$Reader", "many", "I", true)
  | 2 => ("QuotedRiver$Reader", "\x72", "LQuotedRiver$Rivers;", true)
  | 3 => ("QuotedRiver$Reader", "at", "I", false)
  | 4 => ("QuotedRiver$Reader", "begin", "I", false)
  | 5 => ("QuotedRiver$Reader", "token", "I", false)
  | _ => ("QuotedRiver$Reader", "value", "I", false)
def tyX7 : Nat → FieldType := fun k => match k with
  | 0 => .array .byte
  | 1 => .int
  | 2 => .object "QuotedRiver$Rivers"
  | 3 => .int
  | 4 => .int
  | 5 => .int
  | _ => .int
abbrev wsX70 : List Cond := u_ws RX7 TX7 7
theorem nmX7 : ∀ a, a < 7 → ∀ b, b < 7 → a ≠ b → (TX7 a).2.1 ≠ (TX7 b).2.1 := by decide +kernel
theorem tyX7_ok : ∀ k, k < 7 → parseFieldDescriptor (TX7 k).2.2.1 = some (tyX7 k) := by decide +kernel
/-! QuotedRiver$Fault -/
def RX8 : String := "QuotedRiver$Fault"
def TX8 : u_T := fun k => match k with
  | 0 => ("java/lang/Throwable", "cause", "Ljava/lang/Throwable;", false)
  | 1 => ("java/lang/Throwable", "stackTrace", "[Ljava/lang/StackTraceElement;", false)
  | 2 => ("java/lang/Throwable", "suppressedExceptions", "Ljava/util/List;", false)
  | 3 => ("java/lang/Throwable", "detailMessage", "Ljava/lang/String;", false)
  | 4 => ("java/lang/Throwable", "backtrace", "Ljava/lang/Object;", false)
  | 5 => ("java/lang/Throwable", "depth", "I", false)
  | 6 => ("QuotedRiver$Fault", "kind", "I", true)
  | _ => ("QuotedRiver$Fault", "place", "I", true)
def tyX8 : Nat → FieldType := fun k => match k with
  | 0 => .object "java/lang/Throwable"
  | 1 => .array (.object "java/lang/StackTraceElement")
  | 2 => .object "java/util/List"
  | 3 => .object "java/lang/String"
  | 4 => .object "java/lang/Object"
  | 5 => .int
  | 6 => .int
  | _ => .int
abbrev wsX80 : List Cond := u_ws RX8 TX8 8
theorem nmX8 : ∀ a, a < 8 → ∀ b, b < 8 → a ≠ b → (TX8 a).2.1 ≠ (TX8 b).2.1 := by decide +kernel
theorem tyX8_ok : ∀ k, k < 8 → parseFieldDescriptor (TX8 k).2.2.1 = some (tyX8 k) := by decide +kernel
/-! QuotedRiver$Reach -/
def RX9 : String := "QuotedRiver$Reach"
def TX9 : u_T := fun k => match k with
  | 0 => ("QuotedRiver$Reach", "to", "I", false)
  | 1 => ("QuotedRiver$Reach", "takes", "I", false)
  | _ => ("QuotedRiver$Reach", "low", "I", false)
def tyX9 : Nat → FieldType := fun k => match k with
  | 0 => .int
  | 1 => .int
  | _ => .int
abbrev wsX90 : List Cond := u_ws RX9 TX9 3
theorem nmX9 : ∀ a, a < 3 → ∀ b, b < 3 → a ≠ b → (TX9 a).2.1 ≠ (TX9 b).2.1 := by decide +kernel
theorem tyX9_ok : ∀ k, k < 3 → parseFieldDescriptor (TX9 k).2.2.1 = some (tyX9 k) := by decide +kernel














theorem q96 : (Jvm.Cond.initialized "java/util/AbstractCollection") ∈ lw_all := lw_g (lw_at lw_m1 4 rfl) rfl
theorem q361 : (Jvm.Cond.instanceMethod ({ cls := "java/util/AbstractCollection", name := "<init>", desc := "()V" } : Jvm.MethodName)) ∈ lw_all := lw_g (lw_at lw_m2 29 rfl) rfl
theorem q362 : (Jvm.Cond.code ({ cls := "java/util/AbstractCollection", name := "<init>", desc := "()V" } : Jvm.MethodName) prog_36_method_1_code (1 : Nat) (Option.none : Option Jvm.ClassFile.FieldType)) ∈ lw_all := lw_g (lw_at lw_m2 30 rfl) rfl
theorem q363 : (Jvm.Cond.methodLink "java/util/AbstractCollection" (1 : Nat) ({ cls := "java/lang/Object", name := "<init>", desc := "()V" } : Jvm.MethodName)) ∈ lw_all := lw_g (lw_at lw_m2 31 rfl) rfl
theorem q97 : (Jvm.Cond.initialized "java/util/AbstractList") ∈ lw_all := lw_g (lw_at lw_m1 5 rfl) rfl
theorem q358 : (Jvm.Cond.instanceMethod ({ cls := "java/util/AbstractList", name := "<init>", desc := "()V" } : Jvm.MethodName)) ∈ lw_all := lw_g (lw_at lw_m2 26 rfl) rfl
theorem q359 : (Jvm.Cond.code ({ cls := "java/util/AbstractList", name := "<init>", desc := "()V" } : Jvm.MethodName) prog_37_method_1_code (1 : Nat) (Option.none : Option Jvm.ClassFile.FieldType)) ∈ lw_all := lw_g (lw_at lw_m2 27 rfl) rfl
theorem q360 : (Jvm.Cond.methodLink "java/util/AbstractList" (1 : Nat) ({ cls := "java/util/AbstractCollection", name := "<init>", desc := "()V" } : Jvm.MethodName)) ∈ lw_all := lw_g (lw_at lw_m2 28 rfl) rfl
theorem q372 : (Jvm.Cond.fieldLink "java/util/AbstractList" (7 : Nat) "java/util/AbstractList" "modCount" "I") ∈ lw_all := lw_g (lw_at lw_m2 40 rfl) rfl
theorem q381 : (Jvm.Cond.soleField "java/util/AbstractList" "modCount") ∈ lw_all := lw_g (lw_at lw_m2 49 rfl) rfl
theorem q111 : (Jvm.Cond.initialized "java/lang/RuntimeException") ∈ lw_all := lw_g (lw_at lw_m1 19 rfl) rfl
theorem q148 : (Jvm.Cond.instanceMethod ({ cls := "java/lang/RuntimeException", name := "<init>", desc := "(Ljava/lang/String;)V" } : Jvm.MethodName)) ∈ lw_all := lw_g (lw_at lw_m1 56 rfl) rfl
theorem q149 : (Jvm.Cond.code ({ cls := "java/lang/RuntimeException", name := "<init>", desc := "(Ljava/lang/String;)V" } : Jvm.MethodName) prog_28_method_2_code (2 : Nat) (Option.none : Option Jvm.ClassFile.FieldType)) ∈ lw_all := lw_g (lw_at lw_m1 57 rfl) rfl
theorem q150 : (Jvm.Cond.methodLink "java/lang/RuntimeException" (7 : Nat) ({ cls := "java/lang/Exception", name := "<init>", desc := "(Ljava/lang/String;)V" } : Jvm.MethodName)) ∈ lw_all := lw_g (lw_at lw_m1 58 rfl) rfl
theorem q179 : (Jvm.Cond.sameMethod "java/lang/RuntimeException" "java/lang/Throwable" "fillInStackTrace" "()Ljava/lang/Throwable;") ∈ lw_all := lw_g (lw_at lw_m1 87 rfl) rfl
theorem q182 : (Jvm.Cond.superclass "java/lang/RuntimeException" "java/lang/Exception") ∈ lw_all := lw_g (lw_at lw_m1 90 rfl) rfl
theorem q209 : (Jvm.Cond.declares ({ cls := "java/lang/RuntimeException", name := "<init>", desc := "()V" } : Jvm.MethodName)) ∈ lw_tbl := lw_at lw_m1 117 rfl
theorem q210 : (Jvm.Cond.declares ({ cls := "java/lang/RuntimeException", name := "<init>", desc := "(Ljava/lang/String;)V" } : Jvm.MethodName)) ∈ lw_tbl := lw_at lw_m1 118 rfl
theorem q246 : (Jvm.Cond.instanceMethod ({ cls := "java/lang/RuntimeException", name := "<init>", desc := "()V" } : Jvm.MethodName)) ∈ lw_all := lw_g (lw_at lw_m1 154 rfl) rfl
theorem q247 : (Jvm.Cond.code ({ cls := "java/lang/RuntimeException", name := "<init>", desc := "()V" } : Jvm.MethodName) prog_28_method_1_code (1 : Nat) (Option.none : Option Jvm.ClassFile.FieldType)) ∈ lw_all := lw_g (lw_at lw_m1 155 rfl) rfl
theorem q248 : (Jvm.Cond.methodLink "java/lang/RuntimeException" (1 : Nat) ({ cls := "java/lang/Exception", name := "<init>", desc := "()V" } : Jvm.MethodName)) ∈ lw_all := lw_g (lw_at lw_m1 156 rfl) rfl
theorem q266 : (Jvm.Cond.castable "java/lang/RuntimeException" "java/lang/Throwable") ∈ lw_tbl := lw_at lw_m1 174 rfl
theorem q744 : (Jvm.Cond.instanceMethod ({ cls := "java/lang/RuntimeException", name := "<init>", desc := "(Ljava/lang/String;Ljava/lang/Throwable;ZZ)V" } : Jvm.MethodName)) ∈ lw_all := lw_g (lw_at lw_m3 172 rfl) rfl
theorem q745 : (Jvm.Cond.code ({ cls := "java/lang/RuntimeException", name := "<init>", desc := "(Ljava/lang/String;Ljava/lang/Throwable;ZZ)V" } : Jvm.MethodName) prog_28_method_5_code (5 : Nat) (Option.none : Option Jvm.ClassFile.FieldType)) ∈ lw_all := lw_g (lw_at lw_m3 173 rfl) rfl
theorem q746 : (Jvm.Cond.methodLink "java/lang/RuntimeException" (16 : Nat) ({ cls := "java/lang/Exception", name := "<init>", desc := "(Ljava/lang/String;Ljava/lang/Throwable;ZZ)V" } : Jvm.MethodName)) ∈ lw_all := lw_g (lw_at lw_m3 174 rfl) rfl
theorem q114 : (Jvm.Cond.initialized "jdk/internal/util/ArraysSupport") ∈ lw_all := lw_g (lw_at lw_m1 22 rfl) rfl
theorem q847 : (Jvm.Cond.static ({ cls := "jdk/internal/util/ArraysSupport", name := "newLength", desc := "(III)I" } : Jvm.MethodName)) ∈ lw_all := lw_g (lw_at lw_m4 35 rfl) rfl
theorem q848 : (Jvm.Cond.code ({ cls := "jdk/internal/util/ArraysSupport", name := "newLength", desc := "(III)I" } : Jvm.MethodName) prog_47_method_27_code (4 : Nat) (Option.some Jvm.ClassFile.FieldType.int)) ∈ lw_all := lw_g (lw_at lw_m4 36 rfl) rfl
theorem q849 : (Jvm.Cond.methodLink "jdk/internal/util/ArraysSupport" (194 : Nat) ({ cls := "java/lang/Math", name := "max", desc := "(II)I" } : Jvm.MethodName)) ∈ lw_all := lw_g (lw_at lw_m4 37 rfl) rfl
theorem q852 : (Jvm.Cond.constant "jdk/internal/util/ArraysSupport" (200 : Nat) (2147483639 : Int32)) ∈ lw_all := lw_g (lw_at lw_m4 40 rfl) rfl
theorem q853 : (Jvm.Cond.methodLink "jdk/internal/util/ArraysSupport" (201 : Nat) ({ cls := "jdk/internal/util/ArraysSupport", name := "hugeLength", desc := "(II)I" } : Jvm.MethodName)) ∈ lw_all := lw_g (lw_at lw_m4 41 rfl) rfl
theorem q854 : (Jvm.Cond.static ({ cls := "jdk/internal/util/ArraysSupport", name := "hugeLength", desc := "(II)I" } : Jvm.MethodName)) ∈ lw_all := lw_g (lw_at lw_m4 42 rfl) rfl
theorem q855 : (Jvm.Cond.code ({ cls := "jdk/internal/util/ArraysSupport", name := "hugeLength", desc := "(II)I" } : Jvm.MethodName) prog_47_method_28_code (3 : Nat) (Option.some Jvm.ClassFile.FieldType.int)) ∈ lw_all := lw_g (lw_at lw_m4 43 rfl) rfl
theorem q115 : (Jvm.Cond.initialized "java/util/Arrays") ∈ lw_all := lw_g (lw_at lw_m1 23 rfl) rfl
theorem q857 : (Jvm.Cond.static ({ cls := "java/util/Arrays", name := "copyOf", desc := "([Ljava/lang/Object;I)[Ljava/lang/Object;" } : Jvm.MethodName)) ∈ lw_all := lw_g (lw_at lw_m4 45 rfl) rfl
theorem q858 : (Jvm.Cond.code ({ cls := "java/util/Arrays", name := "copyOf", desc := "([Ljava/lang/Object;I)[Ljava/lang/Object;" } : Jvm.MethodName) prog_40_method_119_code (2 : Nat) (Option.some (Jvm.ClassFile.FieldType.array (Jvm.ClassFile.FieldType.object "java/lang/Object")))) ∈ lw_all := lw_g (lw_at lw_m4 46 rfl) rfl
theorem q859 : (Jvm.Cond.methodLink "java/util/Arrays" (86 : Nat) ({ cls := "java/lang/Object", name := "getClass", desc := "()Ljava/lang/Class;" } : Jvm.MethodName)) ∈ lw_all := lw_g (lw_at lw_m4 47 rfl) rfl
theorem q882 : (Jvm.Cond.methodLink "java/util/Arrays" (300 : Nat) ({ cls := "java/util/Arrays", name := "copyOf", desc := "([Ljava/lang/Object;ILjava/lang/Class;)[Ljava/lang/Object;" } : Jvm.MethodName)) ∈ lw_all := lw_g (lw_at lw_m4 70 rfl) rfl
theorem q883 : (Jvm.Cond.static ({ cls := "java/util/Arrays", name := "copyOf", desc := "([Ljava/lang/Object;ILjava/lang/Class;)[Ljava/lang/Object;" } : Jvm.MethodName)) ∈ lw_all := lw_g (lw_at lw_m4 71 rfl) rfl
theorem q884 : (Jvm.Cond.code ({ cls := "java/util/Arrays", name := "copyOf", desc := "([Ljava/lang/Object;ILjava/lang/Class;)[Ljava/lang/Object;" } : Jvm.MethodName) prog_40_method_120_code (4 : Nat) (Option.some (Jvm.ClassFile.FieldType.array (Jvm.ClassFile.FieldType.object "java/lang/Object")))) ∈ lw_all := lw_g (lw_at lw_m4 72 rfl) rfl
theorem q885 : (Jvm.Cond.classLink "java/util/Arrays" (110 : Nat) "[Ljava/lang/Object;") ∈ lw_all := lw_g (lw_at lw_m4 73 rfl) rfl
theorem q886 : (Jvm.Cond.classLink "java/util/Arrays" (2 : Nat) "java/lang/Object") ∈ lw_all := lw_g (lw_at lw_m4 74 rfl) rfl
theorem q887 : (Jvm.Cond.methodLink "java/util/Arrays" (304 : Nat) ({ cls := "java/lang/Math", name := "min", desc := "(II)I" } : Jvm.MethodName)) ∈ lw_all := lw_g (lw_at lw_m4 75 rfl) rfl
theorem q888 : (Jvm.Cond.methodLink "java/util/Arrays" (150 : Nat) ({ cls := "java/lang/System", name := "arraycopy", desc := "(Ljava/lang/Object;ILjava/lang/Object;II)V" } : Jvm.MethodName)) ∈ lw_all := lw_g (lw_at lw_m4 76 rfl) rfl
theorem q1064 : (Jvm.Cond.static ({ cls := "java/util/Arrays", name := "fill", desc := "([II)V" } : Jvm.MethodName)) ∈ lw_all := lw_g (lw_at lw_m5 12 rfl) rfl
theorem q1065 : (Jvm.Cond.code ({ cls := "java/util/Arrays", name := "fill", desc := "([II)V" } : Jvm.MethodName) prog_40_method_103_code (4 : Nat) (Option.none : Option Jvm.ClassFile.FieldType)) ∈ lw_all := lw_g (lw_at lw_m5 13 rfl) rfl
theorem q1235 : (Jvm.Cond.static ({ cls := "java/util/Arrays", name := "fill", desc := "([JJ)V" } : Jvm.MethodName)) ∈ lw_all := lw_g (lw_at lw_m5 183 rfl) rfl
theorem q1236 : (Jvm.Cond.code ({ cls := "java/util/Arrays", name := "fill", desc := "([JJ)V" } : Jvm.MethodName) prog_40_method_101_code (5 : Nat) (Option.none : Option Jvm.ClassFile.FieldType)) ∈ lw_all := lw_g (lw_at lw_m5 184 rfl) rfl
theorem q119 : (Jvm.Cond.initialized "java/util/ArrayList$Itr") ∈ lw_all := lw_g (lw_at lw_m1 27 rfl) rfl
theorem q369 : (Jvm.Cond.fieldLink "java/util/ArrayList$Itr" (37 : Nat) "java/util/ArrayList" "elementData" "[Ljava/lang/Object;") ∈ lw_all := lw_g (lw_at lw_m2 37 rfl) rfl
theorem q370 : (Jvm.Cond.fieldLinkNest "java/util/ArrayList$Itr" (28 : Nat) "java/util/ArrayList" "size" "I" "java/util/ArrayList") ∈ lw_tbl := lw_at lw_m2 38 rfl
theorem q373 : (Jvm.Cond.fieldLink "java/util/ArrayList$Itr" (17 : Nat) "java/util/ArrayList" "modCount" "I") ∈ lw_all := lw_g (lw_at lw_m2 41 rfl) rfl
theorem q880 : (Jvm.Cond.selects "java/util/ArrayList$Itr" ({ cls := "java/lang/Object", name := "getClass", desc := "()Ljava/lang/Class;" } : Jvm.MethodName) ({ cls := "java/lang/Object", name := "getClass", desc := "()Ljava/lang/Class;" } : Jvm.MethodName)) ∈ lw_all := lw_g (lw_at lw_m4 68 rfl) rfl
theorem q956 : (Jvm.Cond.instantiable "java/util/ArrayList$Itr" (4 : Nat)) ∈ lw_all := lw_g (lw_at lw_m4 144 rfl) rfl
theorem q958 : (Jvm.Cond.instanceMethod ({ cls := "java/util/ArrayList$Itr", name := "<init>", desc := "(Ljava/util/ArrayList;)V" } : Jvm.MethodName)) ∈ lw_all := lw_g (lw_at lw_m4 146 rfl) rfl
theorem q959 : (Jvm.Cond.code ({ cls := "java/util/ArrayList$Itr", name := "<init>", desc := "(Ljava/util/ArrayList;)V" } : Jvm.MethodName) prog_39_method_1_code (2 : Nat) (Option.none : Option Jvm.ClassFile.FieldType)) ∈ lw_all := lw_g (lw_at lw_m4 147 rfl) rfl
theorem q960 : (Jvm.Cond.methodLink "java/util/ArrayList$Itr" (7 : Nat) ({ cls := "java/lang/Object", name := "<init>", desc := "()V" } : Jvm.MethodName)) ∈ lw_all := lw_g (lw_at lw_m4 148 rfl) rfl
theorem q961 : (Jvm.Cond.fieldLink "java/util/ArrayList$Itr" (25 : Nat) "java/util/ArrayList$Itr" "cursor" "I") ∈ lw_all := lw_g (lw_at lw_m4 149 rfl) rfl
theorem q962 : (Jvm.Cond.fieldLink "java/util/ArrayList$Itr" (13 : Nat) "java/util/ArrayList$Itr" "lastRet" "I") ∈ lw_all := lw_g (lw_at lw_m4 150 rfl) rfl
theorem q963 : (Jvm.Cond.fieldLink "java/util/ArrayList$Itr" (22 : Nat) "java/util/ArrayList$Itr" "expectedModCount" "I") ∈ lw_all := lw_g (lw_at lw_m4 151 rfl) rfl
theorem q964 : (Jvm.Cond.fieldLink "java/util/ArrayList$Itr" (1 : Nat) "java/util/ArrayList$Itr" "this$0" "Ljava/util/ArrayList;") ∈ lw_all := lw_g (lw_at lw_m4 152 rfl) rfl
theorem q965 : (Jvm.Cond.lays "java/util/ArrayList$Itr" "java/util/ArrayList$Itr" "cursor" "I") ∈ lw_all := lw_g (lw_at lw_m4 153 rfl) rfl
theorem q966 : (Jvm.Cond.soleField "java/util/ArrayList$Itr" "cursor") ∈ lw_all := lw_g (lw_at lw_m4 154 rfl) rfl
theorem q967 : (Jvm.Cond.lays "java/util/ArrayList$Itr" "java/util/ArrayList$Itr" "lastRet" "I") ∈ lw_all := lw_g (lw_at lw_m4 155 rfl) rfl
theorem q968 : (Jvm.Cond.soleField "java/util/ArrayList$Itr" "lastRet") ∈ lw_all := lw_g (lw_at lw_m4 156 rfl) rfl
theorem q969 : (Jvm.Cond.lays "java/util/ArrayList$Itr" "java/util/ArrayList$Itr" "expectedModCount" "I") ∈ lw_all := lw_g (lw_at lw_m4 157 rfl) rfl
theorem q970 : (Jvm.Cond.soleField "java/util/ArrayList$Itr" "expectedModCount") ∈ lw_all := lw_g (lw_at lw_m4 158 rfl) rfl
theorem q971 : (Jvm.Cond.laysFinal "java/util/ArrayList$Itr" "java/util/ArrayList$Itr" "this$0" "Ljava/util/ArrayList;") ∈ lw_all := lw_g (lw_at lw_m4 159 rfl) rfl
theorem q972 : (Jvm.Cond.soleField "java/util/ArrayList$Itr" "this$0") ∈ lw_all := lw_g (lw_at lw_m4 160 rfl) rfl
theorem q973 : (Jvm.Cond.superclass "java/util/ArrayList$Itr" "java/lang/Object") ∈ lw_all := lw_g (lw_at lw_m4 161 rfl) rfl
theorem q978 : (Jvm.Cond.castable "java/util/ArrayList$Itr" "java/util/Iterator") ∈ lw_tbl := lw_at lw_m4 166 rfl
theorem q979 : (Jvm.Cond.selects "java/util/ArrayList$Itr" ({ cls := "java/util/Iterator", name := "hasNext", desc := "()Z" } : Jvm.MethodName) ({ cls := "java/util/ArrayList$Itr", name := "hasNext", desc := "()Z" } : Jvm.MethodName)) ∈ lw_all := lw_g (lw_at lw_m4 167 rfl) rfl
theorem q980 : (Jvm.Cond.unhidden "java/util/ArrayList$Itr" "hasNext" "()Z") ∈ lw_tbl := lw_at lw_m4 168 rfl
theorem q981 : (Jvm.Cond.instanceMethod ({ cls := "java/util/ArrayList$Itr", name := "hasNext", desc := "()Z" } : Jvm.MethodName)) ∈ lw_all := lw_g (lw_at lw_m4 169 rfl) rfl
theorem q982 : (Jvm.Cond.publicMethod ({ cls := "java/util/ArrayList$Itr", name := "hasNext", desc := "()Z" } : Jvm.MethodName)) ∈ lw_tbl := lw_at lw_m4 170 rfl
theorem q983 : (Jvm.Cond.code ({ cls := "java/util/ArrayList$Itr", name := "hasNext", desc := "()Z" } : Jvm.MethodName) prog_39_method_2_code (1 : Nat) (Option.some Jvm.ClassFile.FieldType.boolean)) ∈ lw_all := lw_g (lw_at lw_m4 171 rfl) rfl
theorem q988 : (Jvm.Cond.selects "java/util/ArrayList$Itr" ({ cls := "java/util/Iterator", name := "next", desc := "()Ljava/lang/Object;" } : Jvm.MethodName) ({ cls := "java/util/ArrayList$Itr", name := "next", desc := "()Ljava/lang/Object;" } : Jvm.MethodName)) ∈ lw_all := lw_g (lw_at lw_m4 176 rfl) rfl
theorem q989 : (Jvm.Cond.unhidden "java/util/ArrayList$Itr" "next" "()Ljava/lang/Object;") ∈ lw_tbl := lw_at lw_m4 177 rfl
theorem q990 : (Jvm.Cond.instanceMethod ({ cls := "java/util/ArrayList$Itr", name := "next", desc := "()Ljava/lang/Object;" } : Jvm.MethodName)) ∈ lw_all := lw_g (lw_at lw_m4 178 rfl) rfl
theorem q991 : (Jvm.Cond.publicMethod ({ cls := "java/util/ArrayList$Itr", name := "next", desc := "()Ljava/lang/Object;" } : Jvm.MethodName)) ∈ lw_tbl := lw_at lw_m4 179 rfl
theorem q992 : (Jvm.Cond.code ({ cls := "java/util/ArrayList$Itr", name := "next", desc := "()Ljava/lang/Object;" } : Jvm.MethodName) prog_39_method_3_code (3 : Nat) (Option.some (Jvm.ClassFile.FieldType.object "java/lang/Object"))) ∈ lw_all := lw_g (lw_at lw_m4 180 rfl) rfl
theorem q993 : (Jvm.Cond.methodLink "java/util/ArrayList$Itr" (31 : Nat) ({ cls := "java/util/ArrayList$Itr", name := "checkForComodification", desc := "()V" } : Jvm.MethodName)) ∈ lw_all := lw_g (lw_at lw_m4 181 rfl) rfl
theorem q994 : (Jvm.Cond.instanceMethod ({ cls := "java/util/ArrayList$Itr", name := "checkForComodification", desc := "()V" } : Jvm.MethodName)) ∈ lw_all := lw_g (lw_at lw_m4 182 rfl) rfl
theorem q995 : (Jvm.Cond.selects "java/util/ArrayList$Itr" ({ cls := "java/util/ArrayList$Itr", name := "checkForComodification", desc := "()V" } : Jvm.MethodName) ({ cls := "java/util/ArrayList$Itr", name := "checkForComodification", desc := "()V" } : Jvm.MethodName)) ∈ lw_all := lw_g (lw_at lw_m4 183 rfl) rfl
theorem q996 : (Jvm.Cond.code ({ cls := "java/util/ArrayList$Itr", name := "checkForComodification", desc := "()V" } : Jvm.MethodName) prog_39_method_6_code (1 : Nat) (Option.none : Option Jvm.ClassFile.FieldType)) ∈ lw_all := lw_g (lw_at lw_m4 184 rfl) rfl
theorem q2327 : (Jvm.Cond.castable "java/util/ArrayList$Itr" "java/lang/Object") ∈ lw_tbl := lw_at lw_m10 75 rfl
theorem in_J13 : ∀ w ∈ wsJ130, w ∈ lw_all := lw_in wsJ130 [965, 967, 969, 971] (by decide +kernel) (by decide +kernel)
theorem q120 : (Jvm.Cond.initialized "java/util/Objects") ∈ lw_all := lw_g (lw_at lw_m1 28 rfl) rfl
theorem q1034 : (Jvm.Cond.static ({ cls := "java/util/Objects", name := "checkIndex", desc := "(II)I" } : Jvm.MethodName)) ∈ lw_all := lw_g (lw_at lw_m4 222 rfl) rfl
theorem q1035 : (Jvm.Cond.code ({ cls := "java/util/Objects", name := "checkIndex", desc := "(II)I" } : Jvm.MethodName) prog_44_method_17_code (2 : Nat) (Option.some Jvm.ClassFile.FieldType.int)) ∈ lw_all := lw_g (lw_at lw_m4 223 rfl) rfl
theorem q1036 : (Jvm.Cond.methodLink "java/util/Objects" (105 : Nat) ({ cls := "jdk/internal/util/Preconditions", name := "checkIndex", desc := "(IILjava/util/function/BiFunction;)I" } : Jvm.MethodName)) ∈ lw_all := lw_g (lw_at lw_m4 224 rfl) rfl
theorem q121 : (Jvm.Cond.initialized "java/lang/Integer") ∈ lw_all := lw_g (lw_at lw_m1 29 rfl) rfl
theorem q1140 : (Jvm.Cond.static ({ cls := "java/lang/Integer", name := "bitCount", desc := "(I)I" } : Jvm.MethodName)) ∈ lw_all := lw_g (lw_at lw_m5 88 rfl) rfl
theorem q1141 : (Jvm.Cond.code ({ cls := "java/lang/Integer", name := "bitCount", desc := "(I)I" } : Jvm.MethodName) prog_23_method_49_code (1 : Nat) (Option.some Jvm.ClassFile.FieldType.int)) ∈ lw_all := lw_g (lw_at lw_m5 89 rfl) rfl
theorem q1142 : (Jvm.Cond.constant "java/lang/Integer" (265 : Nat) (1431655765 : Int32)) ∈ lw_all := lw_g (lw_at lw_m5 90 rfl) rfl
theorem q1143 : (Jvm.Cond.constant "java/lang/Integer" (266 : Nat) (858993459 : Int32)) ∈ lw_all := lw_g (lw_at lw_m5 91 rfl) rfl
theorem q1144 : (Jvm.Cond.constant "java/lang/Integer" (267 : Nat) (252645135 : Int32)) ∈ lw_all := lw_g (lw_at lw_m5 92 rfl) rfl
theorem q123 : (Jvm.Cond.initialized "java/lang/NegativeArraySizeException") ∈ lw_all := lw_g (lw_at lw_m1 31 rfl) rfl
theorem q144 : (Jvm.Cond.instantiable "java/lang/NegativeArraySizeException" (6 : Nat)) ∈ lw_all := lw_g (lw_at lw_m1 52 rfl) rfl
theorem q145 : (Jvm.Cond.instanceMethod ({ cls := "java/lang/NegativeArraySizeException", name := "<init>", desc := "(Ljava/lang/String;)V" } : Jvm.MethodName)) ∈ lw_all := lw_g (lw_at lw_m1 53 rfl) rfl
theorem q146 : (Jvm.Cond.code ({ cls := "java/lang/NegativeArraySizeException", name := "<init>", desc := "(Ljava/lang/String;)V" } : Jvm.MethodName) prog_26_method_2_code (2 : Nat) (Option.none : Option Jvm.ClassFile.FieldType)) ∈ lw_all := lw_g (lw_at lw_m1 54 rfl) rfl
theorem q147 : (Jvm.Cond.methodLink "java/lang/NegativeArraySizeException" (7 : Nat) ({ cls := "java/lang/RuntimeException", name := "<init>", desc := "(Ljava/lang/String;)V" } : Jvm.MethodName)) ∈ lw_all := lw_g (lw_at lw_m1 55 rfl) rfl
theorem q169 : (Jvm.Cond.selects "java/lang/NegativeArraySizeException" ({ cls := "java/lang/Throwable", name := "fillInStackTrace", desc := "()Ljava/lang/Throwable;" } : Jvm.MethodName) ({ cls := "java/lang/Throwable", name := "fillInStackTrace", desc := "()Ljava/lang/Throwable;" } : Jvm.MethodName)) ∈ lw_all := lw_g (lw_at lw_m1 77 rfl) rfl
theorem q195 : (Jvm.Cond.lays "java/lang/NegativeArraySizeException" "java/lang/Throwable" "backtrace" "Ljava/lang/Object;") ∈ lw_all := lw_g (lw_at lw_m1 103 rfl) rfl
theorem q197 : (Jvm.Cond.lays "java/lang/NegativeArraySizeException" "java/lang/Throwable" "detailMessage" "Ljava/lang/String;") ∈ lw_all := lw_g (lw_at lw_m1 105 rfl) rfl
theorem q199 : (Jvm.Cond.lays "java/lang/NegativeArraySizeException" "java/lang/Throwable" "cause" "Ljava/lang/Throwable;") ∈ lw_all := lw_g (lw_at lw_m1 107 rfl) rfl
theorem q201 : (Jvm.Cond.lays "java/lang/NegativeArraySizeException" "java/lang/Throwable" "stackTrace" "[Ljava/lang/StackTraceElement;") ∈ lw_all := lw_g (lw_at lw_m1 109 rfl) rfl
theorem q203 : (Jvm.Cond.lays "java/lang/NegativeArraySizeException" "java/lang/Throwable" "depth" "I") ∈ lw_all := lw_g (lw_at lw_m1 111 rfl) rfl
theorem q205 : (Jvm.Cond.lays "java/lang/NegativeArraySizeException" "java/lang/Throwable" "suppressedExceptions" "Ljava/util/List;") ∈ lw_all := lw_g (lw_at lw_m1 113 rfl) rfl
theorem q207 : (Jvm.Cond.superclass "java/lang/NegativeArraySizeException" "java/lang/RuntimeException") ∈ lw_all := lw_g (lw_at lw_m1 115 rfl) rfl
theorem q208 : (Jvm.Cond.castable "java/lang/NegativeArraySizeException" "java/lang/NegativeArraySizeException") ∈ lw_tbl := lw_at lw_m1 116 rfl
theorem q215 : (Jvm.Cond.selects "java/lang/NegativeArraySizeException" ({ cls := "java/lang/Throwable", name := "fillInStackTrace", desc := "(I)Ljava/lang/Throwable;" } : Jvm.MethodName) ({ cls := "java/lang/Throwable", name := "fillInStackTrace", desc := "(I)Ljava/lang/Throwable;" } : Jvm.MethodName)) ∈ lw_all := lw_g (lw_at lw_m1 123 rfl) rfl
theorem q877 : (Jvm.Cond.selects "java/lang/NegativeArraySizeException" ({ cls := "java/lang/Object", name := "getClass", desc := "()Ljava/lang/Class;" } : Jvm.MethodName) ({ cls := "java/lang/Object", name := "getClass", desc := "()Ljava/lang/Class;" } : Jvm.MethodName)) ∈ lw_all := lw_g (lw_at lw_m4 65 rfl) rfl
theorem q2329 : (Jvm.Cond.castable "java/lang/NegativeArraySizeException" "java/lang/Object") ∈ lw_tbl := lw_at lw_m10 77 rfl
theorem in_J16 : ∀ w ∈ wsJ160, w ∈ lw_all := lw_in wsJ160 [195, 197, 199, 201, 203, 205] (by decide +kernel) (by decide +kernel)
theorem q124 : (Jvm.Cond.initialized "java/lang/NullPointerException") ∈ lw_all := lw_g (lw_at lw_m1 32 rfl) rfl
theorem q170 : (Jvm.Cond.selects "java/lang/NullPointerException" ({ cls := "java/lang/Throwable", name := "fillInStackTrace", desc := "()Ljava/lang/Throwable;" } : Jvm.MethodName) ({ cls := "java/lang/NullPointerException", name := "fillInStackTrace", desc := "()Ljava/lang/Throwable;" } : Jvm.MethodName)) ∈ lw_all := lw_g (lw_at lw_m1 78 rfl) rfl
theorem q171 : (Jvm.Cond.instanceMethod ({ cls := "java/lang/NullPointerException", name := "fillInStackTrace", desc := "()Ljava/lang/Throwable;" } : Jvm.MethodName)) ∈ lw_all := lw_g (lw_at lw_m1 79 rfl) rfl
theorem q172 : (Jvm.Cond.codeSync ({ cls := "java/lang/NullPointerException", name := "fillInStackTrace", desc := "()Ljava/lang/Throwable;" } : Jvm.MethodName) prog_27_method_3_code (1 : Nat) (Option.some (Jvm.ClassFile.FieldType.object "java/lang/Throwable"))) ∈ lw_all := lw_g (lw_at lw_m1 80 rfl) rfl
theorem q173 : (Jvm.Cond.methodLink "java/lang/NullPointerException" (16 : Nat) ({ cls := "java/lang/NullPointerException", name := "getExtendedNPEMessage", desc := "()Ljava/lang/String;" } : Jvm.MethodName)) ∈ lw_all := lw_g (lw_at lw_m1 81 rfl) rfl
theorem q174 : (Jvm.Cond.privateMethod ({ cls := "java/lang/NullPointerException", name := "getExtendedNPEMessage", desc := "()Ljava/lang/String;" } : Jvm.MethodName)) ∈ lw_tbl := lw_at lw_m1 82 rfl
theorem q175 : (Jvm.Cond.instanceMethod ({ cls := "java/lang/NullPointerException", name := "getExtendedNPEMessage", desc := "()Ljava/lang/String;" } : Jvm.MethodName)) ∈ lw_all := lw_g (lw_at lw_m1 83 rfl) rfl
theorem q176 : (Jvm.Cond.instantiable "java/lang/NullPointerException" (8 : Nat)) ∈ lw_all := lw_g (lw_at lw_m1 84 rfl) rfl
theorem q177 : (Jvm.Cond.native ({ cls := "java/lang/NullPointerException", name := "getExtendedNPEMessage", desc := "()Ljava/lang/String;" } : Jvm.MethodName)) ∈ lw_all := lw_g (lw_at lw_m1 85 rfl) rfl
theorem q178 : (Jvm.Cond.methodLink "java/lang/NullPointerException" (24 : Nat) ({ cls := "java/lang/RuntimeException", name := "fillInStackTrace", desc := "()Ljava/lang/Throwable;" } : Jvm.MethodName)) ∈ lw_all := lw_g (lw_at lw_m1 86 rfl) rfl
theorem q181 : (Jvm.Cond.superclass "java/lang/NullPointerException" "java/lang/RuntimeException") ∈ lw_all := lw_g (lw_at lw_m1 89 rfl) rfl
theorem q243 : (Jvm.Cond.instanceMethod ({ cls := "java/lang/NullPointerException", name := "<init>", desc := "()V" } : Jvm.MethodName)) ∈ lw_all := lw_g (lw_at lw_m1 151 rfl) rfl
theorem q244 : (Jvm.Cond.code ({ cls := "java/lang/NullPointerException", name := "<init>", desc := "()V" } : Jvm.MethodName) prog_27_method_1_code (1 : Nat) (Option.none : Option Jvm.ClassFile.FieldType)) ∈ lw_all := lw_g (lw_at lw_m1 152 rfl) rfl
theorem q245 : (Jvm.Cond.methodLink "java/lang/NullPointerException" (1 : Nat) ({ cls := "java/lang/RuntimeException", name := "<init>", desc := "()V" } : Jvm.MethodName)) ∈ lw_all := lw_g (lw_at lw_m1 153 rfl) rfl
theorem q252 : (Jvm.Cond.fieldLink "java/lang/NullPointerException" (10 : Nat) "java/lang/NullPointerException" "extendedMessageState" "I") ∈ lw_all := lw_g (lw_at lw_m1 160 rfl) rfl
theorem q253 : (Jvm.Cond.fieldLink "java/lang/NullPointerException" (20 : Nat) "java/lang/NullPointerException" "extendedMessage" "Ljava/lang/String;") ∈ lw_all := lw_g (lw_at lw_m1 161 rfl) rfl
theorem q254 : (Jvm.Cond.lays "java/lang/NullPointerException" "java/lang/NullPointerException" "extendedMessageState" "I") ∈ lw_all := lw_g (lw_at lw_m1 162 rfl) rfl
theorem q255 : (Jvm.Cond.soleField "java/lang/NullPointerException" "extendedMessageState") ∈ lw_all := lw_g (lw_at lw_m1 163 rfl) rfl
theorem q256 : (Jvm.Cond.lays "java/lang/NullPointerException" "java/lang/NullPointerException" "extendedMessage" "Ljava/lang/String;") ∈ lw_all := lw_g (lw_at lw_m1 164 rfl) rfl
theorem q257 : (Jvm.Cond.soleField "java/lang/NullPointerException" "extendedMessage") ∈ lw_all := lw_g (lw_at lw_m1 165 rfl) rfl
theorem q258 : (Jvm.Cond.lays "java/lang/NullPointerException" "java/lang/Throwable" "backtrace" "Ljava/lang/Object;") ∈ lw_all := lw_g (lw_at lw_m1 166 rfl) rfl
theorem q259 : (Jvm.Cond.lays "java/lang/NullPointerException" "java/lang/Throwable" "detailMessage" "Ljava/lang/String;") ∈ lw_all := lw_g (lw_at lw_m1 167 rfl) rfl
theorem q260 : (Jvm.Cond.lays "java/lang/NullPointerException" "java/lang/Throwable" "cause" "Ljava/lang/Throwable;") ∈ lw_all := lw_g (lw_at lw_m1 168 rfl) rfl
theorem q261 : (Jvm.Cond.lays "java/lang/NullPointerException" "java/lang/Throwable" "stackTrace" "[Ljava/lang/StackTraceElement;") ∈ lw_all := lw_g (lw_at lw_m1 169 rfl) rfl
theorem q262 : (Jvm.Cond.lays "java/lang/NullPointerException" "java/lang/Throwable" "depth" "I") ∈ lw_all := lw_g (lw_at lw_m1 170 rfl) rfl
theorem q263 : (Jvm.Cond.lays "java/lang/NullPointerException" "java/lang/Throwable" "suppressedExceptions" "Ljava/util/List;") ∈ lw_all := lw_g (lw_at lw_m1 171 rfl) rfl
theorem q264 : (Jvm.Cond.castable "java/lang/NullPointerException" "java/lang/NullPointerException") ∈ lw_tbl := lw_at lw_m1 172 rfl
theorem q265 : (Jvm.Cond.selects "java/lang/NullPointerException" ({ cls := "java/lang/Throwable", name := "fillInStackTrace", desc := "(I)Ljava/lang/Throwable;" } : Jvm.MethodName) ({ cls := "java/lang/Throwable", name := "fillInStackTrace", desc := "(I)Ljava/lang/Throwable;" } : Jvm.MethodName)) ∈ lw_all := lw_g (lw_at lw_m1 173 rfl) rfl
theorem q878 : (Jvm.Cond.selects "java/lang/NullPointerException" ({ cls := "java/lang/Object", name := "getClass", desc := "()Ljava/lang/Class;" } : Jvm.MethodName) ({ cls := "java/lang/Object", name := "getClass", desc := "()Ljava/lang/Class;" } : Jvm.MethodName)) ∈ lw_all := lw_g (lw_at lw_m4 66 rfl) rfl
theorem q2330 : (Jvm.Cond.castable "java/lang/NullPointerException" "java/lang/Object") ∈ lw_tbl := lw_at lw_m10 78 rfl
theorem in_J17 : ∀ w ∈ wsJ170, w ∈ lw_all := lw_in wsJ170 [258, 259, 260, 261, 262, 263, 254, 256] (by decide +kernel) (by decide +kernel)
theorem q125 : (Jvm.Cond.initialized "java/lang/IndexOutOfBoundsException") ∈ lw_all := lw_g (lw_at lw_m1 33 rfl) rfl
theorem q272 : (Jvm.Cond.instanceMethod ({ cls := "java/lang/IndexOutOfBoundsException", name := "<init>", desc := "(Ljava/lang/String;)V" } : Jvm.MethodName)) ∈ lw_all := lw_g (lw_at lw_m1 180 rfl) rfl
theorem q273 : (Jvm.Cond.code ({ cls := "java/lang/IndexOutOfBoundsException", name := "<init>", desc := "(Ljava/lang/String;)V" } : Jvm.MethodName) prog_22_method_2_code (2 : Nat) (Option.none : Option Jvm.ClassFile.FieldType)) ∈ lw_all := lw_g (lw_at lw_m1 181 rfl) rfl
theorem q274 : (Jvm.Cond.methodLink "java/lang/IndexOutOfBoundsException" (7 : Nat) ({ cls := "java/lang/RuntimeException", name := "<init>", desc := "(Ljava/lang/String;)V" } : Jvm.MethodName)) ∈ lw_all := lw_g (lw_at lw_m1 182 rfl) rfl
theorem q283 : (Jvm.Cond.declares ({ cls := "java/lang/IndexOutOfBoundsException", name := "<init>", desc := "()V" } : Jvm.MethodName)) ∈ lw_tbl := lw_at lw_m1 191 rfl
theorem q284 : (Jvm.Cond.declares ({ cls := "java/lang/IndexOutOfBoundsException", name := "<init>", desc := "(Ljava/lang/String;)V" } : Jvm.MethodName)) ∈ lw_tbl := lw_at lw_m1 192 rfl
theorem q126 : (Jvm.Cond.initialized "java/lang/ArrayIndexOutOfBoundsException") ∈ lw_all := lw_g (lw_at lw_m1 34 rfl) rfl
theorem q167 : (Jvm.Cond.selects "java/lang/ArrayIndexOutOfBoundsException" ({ cls := "java/lang/Throwable", name := "fillInStackTrace", desc := "()Ljava/lang/Throwable;" } : Jvm.MethodName) ({ cls := "java/lang/Throwable", name := "fillInStackTrace", desc := "()Ljava/lang/Throwable;" } : Jvm.MethodName)) ∈ lw_all := lw_g (lw_at lw_m1 75 rfl) rfl
theorem q268 : (Jvm.Cond.instantiable "java/lang/ArrayIndexOutOfBoundsException" (6 : Nat)) ∈ lw_all := lw_g (lw_at lw_m1 176 rfl) rfl
theorem q269 : (Jvm.Cond.instanceMethod ({ cls := "java/lang/ArrayIndexOutOfBoundsException", name := "<init>", desc := "(Ljava/lang/String;)V" } : Jvm.MethodName)) ∈ lw_all := lw_g (lw_at lw_m1 177 rfl) rfl
theorem q270 : (Jvm.Cond.code ({ cls := "java/lang/ArrayIndexOutOfBoundsException", name := "<init>", desc := "(Ljava/lang/String;)V" } : Jvm.MethodName) prog_16_method_2_code (2 : Nat) (Option.none : Option Jvm.ClassFile.FieldType)) ∈ lw_all := lw_g (lw_at lw_m1 178 rfl) rfl
theorem q271 : (Jvm.Cond.methodLink "java/lang/ArrayIndexOutOfBoundsException" (7 : Nat) ({ cls := "java/lang/IndexOutOfBoundsException", name := "<init>", desc := "(Ljava/lang/String;)V" } : Jvm.MethodName)) ∈ lw_all := lw_g (lw_at lw_m1 179 rfl) rfl
theorem q275 : (Jvm.Cond.lays "java/lang/ArrayIndexOutOfBoundsException" "java/lang/Throwable" "backtrace" "Ljava/lang/Object;") ∈ lw_all := lw_g (lw_at lw_m1 183 rfl) rfl
theorem q276 : (Jvm.Cond.lays "java/lang/ArrayIndexOutOfBoundsException" "java/lang/Throwable" "detailMessage" "Ljava/lang/String;") ∈ lw_all := lw_g (lw_at lw_m1 184 rfl) rfl
theorem q277 : (Jvm.Cond.lays "java/lang/ArrayIndexOutOfBoundsException" "java/lang/Throwable" "cause" "Ljava/lang/Throwable;") ∈ lw_all := lw_g (lw_at lw_m1 185 rfl) rfl
theorem q278 : (Jvm.Cond.lays "java/lang/ArrayIndexOutOfBoundsException" "java/lang/Throwable" "stackTrace" "[Ljava/lang/StackTraceElement;") ∈ lw_all := lw_g (lw_at lw_m1 186 rfl) rfl
theorem q279 : (Jvm.Cond.lays "java/lang/ArrayIndexOutOfBoundsException" "java/lang/Throwable" "depth" "I") ∈ lw_all := lw_g (lw_at lw_m1 187 rfl) rfl
theorem q280 : (Jvm.Cond.lays "java/lang/ArrayIndexOutOfBoundsException" "java/lang/Throwable" "suppressedExceptions" "Ljava/util/List;") ∈ lw_all := lw_g (lw_at lw_m1 188 rfl) rfl
theorem q281 : (Jvm.Cond.superclass "java/lang/ArrayIndexOutOfBoundsException" "java/lang/IndexOutOfBoundsException") ∈ lw_all := lw_g (lw_at lw_m1 189 rfl) rfl
theorem q282 : (Jvm.Cond.castable "java/lang/ArrayIndexOutOfBoundsException" "java/lang/ArrayIndexOutOfBoundsException") ∈ lw_tbl := lw_at lw_m1 190 rfl
theorem q285 : (Jvm.Cond.selects "java/lang/ArrayIndexOutOfBoundsException" ({ cls := "java/lang/Throwable", name := "fillInStackTrace", desc := "(I)Ljava/lang/Throwable;" } : Jvm.MethodName) ({ cls := "java/lang/Throwable", name := "fillInStackTrace", desc := "(I)Ljava/lang/Throwable;" } : Jvm.MethodName)) ∈ lw_all := lw_g (lw_at lw_m1 193 rfl) rfl
theorem q875 : (Jvm.Cond.selects "java/lang/ArrayIndexOutOfBoundsException" ({ cls := "java/lang/Object", name := "getClass", desc := "()Ljava/lang/Class;" } : Jvm.MethodName) ({ cls := "java/lang/Object", name := "getClass", desc := "()Ljava/lang/Class;" } : Jvm.MethodName)) ∈ lw_all := lw_g (lw_at lw_m4 63 rfl) rfl
theorem q2313 : (Jvm.Cond.castable "java/lang/ArrayIndexOutOfBoundsException" "java/lang/IndexOutOfBoundsException") ∈ lw_tbl := lw_at lw_m10 61 rfl
theorem q2331 : (Jvm.Cond.castable "java/lang/ArrayIndexOutOfBoundsException" "java/lang/Object") ∈ lw_tbl := lw_at lw_m10 79 rfl
theorem in_J19 : ∀ w ∈ wsJ190, w ∈ lw_all := lw_in wsJ190 [275, 276, 277, 278, 279, 280] (by decide +kernel) (by decide +kernel)
theorem q98 : (Jvm.Cond.initialized "java/util/ArrayList") ∈ lw_all := lw_g (lw_at lw_m1 6 rfl) rfl
theorem q353 : (Jvm.Cond.instantiable "java/util/ArrayList" (3 : Nat)) ∈ lw_all := lw_g (lw_at lw_m2 21 rfl) rfl
theorem q355 : (Jvm.Cond.instanceMethod ({ cls := "java/util/ArrayList", name := "<init>", desc := "(I)V" } : Jvm.MethodName)) ∈ lw_all := lw_g (lw_at lw_m2 23 rfl) rfl
theorem q356 : (Jvm.Cond.code ({ cls := "java/util/ArrayList", name := "<init>", desc := "(I)V" } : Jvm.MethodName) prog_38_method_1_code (2 : Nat) (Option.none : Option Jvm.ClassFile.FieldType)) ∈ lw_all := lw_g (lw_at lw_m2 24 rfl) rfl
theorem q357 : (Jvm.Cond.methodLink "java/util/ArrayList" (1 : Nat) ({ cls := "java/util/AbstractList", name := "<init>", desc := "()V" } : Jvm.MethodName)) ∈ lw_all := lw_g (lw_at lw_m2 25 rfl) rfl
theorem q364 : (Jvm.Cond.classLink "java/util/ArrayList" (7 : Nat) "java/lang/Object") ∈ lw_all := lw_g (lw_at lw_m2 32 rfl) rfl
theorem q366 : (Jvm.Cond.fieldLink "java/util/ArrayList" (15 : Nat) "java/util/ArrayList" "EMPTY_ELEMENTDATA" "[Ljava/lang/Object;") ∈ lw_all := lw_g (lw_at lw_m2 34 rfl) rfl
theorem q367 : (Jvm.Cond.laysStatic "java/util/ArrayList" "EMPTY_ELEMENTDATA" "[Ljava/lang/Object;") ∈ lw_tbl := lw_at lw_m2 35 rfl
theorem q368 : (Jvm.Cond.fieldLink "java/util/ArrayList" (9 : Nat) "java/util/ArrayList" "elementData" "[Ljava/lang/Object;") ∈ lw_all := lw_g (lw_at lw_m2 36 rfl) rfl
theorem q371 : (Jvm.Cond.fieldLink "java/util/ArrayList" (48 : Nat) "java/util/ArrayList" "size" "I") ∈ lw_all := lw_g (lw_at lw_m2 39 rfl) rfl
theorem q374 : (Jvm.Cond.sameField "java/util/ArrayList" "java/util/AbstractList" "modCount" "I") ∈ lw_all := lw_g (lw_at lw_m2 42 rfl) rfl
theorem q375 : (Jvm.Cond.fieldLink "java/util/ArrayList" (63 : Nat) "java/util/ArrayList" "modCount" "I") ∈ lw_all := lw_g (lw_at lw_m2 43 rfl) rfl
theorem q376 : (Jvm.Cond.lays "java/util/ArrayList" "java/util/ArrayList" "elementData" "[Ljava/lang/Object;") ∈ lw_all := lw_g (lw_at lw_m2 44 rfl) rfl
theorem q377 : (Jvm.Cond.soleField "java/util/ArrayList" "elementData") ∈ lw_all := lw_g (lw_at lw_m2 45 rfl) rfl
theorem q378 : (Jvm.Cond.lays "java/util/ArrayList" "java/util/ArrayList" "size" "I") ∈ lw_all := lw_g (lw_at lw_m2 46 rfl) rfl
theorem q379 : (Jvm.Cond.soleField "java/util/ArrayList" "size") ∈ lw_all := lw_g (lw_at lw_m2 47 rfl) rfl
theorem q380 : (Jvm.Cond.lays "java/util/ArrayList" "java/util/AbstractList" "modCount" "I") ∈ lw_all := lw_g (lw_at lw_m2 48 rfl) rfl
theorem q382 : (Jvm.Cond.superclass "java/util/ArrayList" "java/util/AbstractList") ∈ lw_all := lw_g (lw_at lw_m2 50 rfl) rfl
theorem q384 : (Jvm.Cond.instanceMethod ({ cls := "java/util/ArrayList", name := "<init>", desc := "()V" } : Jvm.MethodName)) ∈ lw_all := lw_g (lw_at lw_m2 52 rfl) rfl
theorem q385 : (Jvm.Cond.code ({ cls := "java/util/ArrayList", name := "<init>", desc := "()V" } : Jvm.MethodName) prog_38_method_2_code (1 : Nat) (Option.none : Option Jvm.ClassFile.FieldType)) ∈ lw_all := lw_g (lw_at lw_m2 53 rfl) rfl
theorem q386 : (Jvm.Cond.fieldLink "java/util/ArrayList" (39 : Nat) "java/util/ArrayList" "DEFAULTCAPACITY_EMPTY_ELEMENTDATA" "[Ljava/lang/Object;") ∈ lw_all := lw_g (lw_at lw_m2 54 rfl) rfl
theorem q387 : (Jvm.Cond.laysStatic "java/util/ArrayList" "DEFAULTCAPACITY_EMPTY_ELEMENTDATA" "[Ljava/lang/Object;") ∈ lw_tbl := lw_at lw_m2 55 rfl
theorem q786 : (Jvm.Cond.castable "java/util/ArrayList" "java/util/List") ∈ lw_tbl := lw_at lw_m3 214 rfl
theorem q787 : (Jvm.Cond.selects "java/util/ArrayList" ({ cls := "java/util/List", name := "size", desc := "()I" } : Jvm.MethodName) ({ cls := "java/util/ArrayList", name := "size", desc := "()I" } : Jvm.MethodName)) ∈ lw_all := lw_g (lw_at lw_m3 215 rfl) rfl
theorem q788 : (Jvm.Cond.unhidden "java/util/ArrayList" "size" "()I") ∈ lw_tbl := lw_at lw_m3 216 rfl
theorem q789 : (Jvm.Cond.instanceMethod ({ cls := "java/util/ArrayList", name := "size", desc := "()I" } : Jvm.MethodName)) ∈ lw_all := lw_g (lw_at lw_m3 217 rfl) rfl
theorem q790 : (Jvm.Cond.publicMethod ({ cls := "java/util/ArrayList", name := "size", desc := "()I" } : Jvm.MethodName)) ∈ lw_tbl := lw_at lw_m3 218 rfl
theorem q791 : (Jvm.Cond.code ({ cls := "java/util/ArrayList", name := "size", desc := "()I" } : Jvm.MethodName) prog_38_method_8_code (1 : Nat) (Option.some Jvm.ClassFile.FieldType.int)) ∈ lw_all := lw_g (lw_at lw_m3 219 rfl) rfl
theorem q829 : (Jvm.Cond.selects "java/util/ArrayList" ({ cls := "java/util/List", name := "add", desc := "(Ljava/lang/Object;)Z" } : Jvm.MethodName) ({ cls := "java/util/ArrayList", name := "add", desc := "(Ljava/lang/Object;)Z" } : Jvm.MethodName)) ∈ lw_all := lw_g (lw_at lw_m4 17 rfl) rfl
theorem q830 : (Jvm.Cond.unhidden "java/util/ArrayList" "add" "(Ljava/lang/Object;)Z") ∈ lw_tbl := lw_at lw_m4 18 rfl
theorem q831 : (Jvm.Cond.instanceMethod ({ cls := "java/util/ArrayList", name := "add", desc := "(Ljava/lang/Object;)Z" } : Jvm.MethodName)) ∈ lw_all := lw_g (lw_at lw_m4 19 rfl) rfl
theorem q832 : (Jvm.Cond.publicMethod ({ cls := "java/util/ArrayList", name := "add", desc := "(Ljava/lang/Object;)Z" } : Jvm.MethodName)) ∈ lw_tbl := lw_at lw_m4 20 rfl
theorem q833 : (Jvm.Cond.code ({ cls := "java/util/ArrayList", name := "add", desc := "(Ljava/lang/Object;)Z" } : Jvm.MethodName) prog_38_method_25_code (2 : Nat) (Option.some Jvm.ClassFile.FieldType.boolean)) ∈ lw_all := lw_g (lw_at lw_m4 21 rfl) rfl
theorem q834 : (Jvm.Cond.methodLink "java/util/ArrayList" (131 : Nat) ({ cls := "java/util/ArrayList", name := "add", desc := "(Ljava/lang/Object;[Ljava/lang/Object;I)V" } : Jvm.MethodName)) ∈ lw_all := lw_g (lw_at lw_m4 22 rfl) rfl
theorem q835 : (Jvm.Cond.privateMethod ({ cls := "java/util/ArrayList", name := "add", desc := "(Ljava/lang/Object;[Ljava/lang/Object;I)V" } : Jvm.MethodName)) ∈ lw_tbl := lw_at lw_m4 23 rfl
theorem q836 : (Jvm.Cond.instanceMethod ({ cls := "java/util/ArrayList", name := "add", desc := "(Ljava/lang/Object;[Ljava/lang/Object;I)V" } : Jvm.MethodName)) ∈ lw_all := lw_g (lw_at lw_m4 24 rfl) rfl
theorem q837 : (Jvm.Cond.code ({ cls := "java/util/ArrayList", name := "add", desc := "(Ljava/lang/Object;[Ljava/lang/Object;I)V" } : Jvm.MethodName) prog_38_method_24_code (4 : Nat) (Option.none : Option Jvm.ClassFile.FieldType)) ∈ lw_all := lw_g (lw_at lw_m4 25 rfl) rfl
theorem q838 : (Jvm.Cond.methodLink "java/util/ArrayList" (129 : Nat) ({ cls := "java/util/ArrayList", name := "grow", desc := "()[Ljava/lang/Object;" } : Jvm.MethodName)) ∈ lw_all := lw_g (lw_at lw_m4 26 rfl) rfl
theorem q839 : (Jvm.Cond.privateMethod ({ cls := "java/util/ArrayList", name := "grow", desc := "()[Ljava/lang/Object;" } : Jvm.MethodName)) ∈ lw_tbl := lw_at lw_m4 27 rfl
theorem q840 : (Jvm.Cond.instanceMethod ({ cls := "java/util/ArrayList", name := "grow", desc := "()[Ljava/lang/Object;" } : Jvm.MethodName)) ∈ lw_all := lw_g (lw_at lw_m4 28 rfl) rfl
theorem q841 : (Jvm.Cond.code ({ cls := "java/util/ArrayList", name := "grow", desc := "()[Ljava/lang/Object;" } : Jvm.MethodName) prog_38_method_7_code (1 : Nat) (Option.some (Jvm.ClassFile.FieldType.array (Jvm.ClassFile.FieldType.object "java/lang/Object")))) ∈ lw_all := lw_g (lw_at lw_m4 29 rfl) rfl
theorem q842 : (Jvm.Cond.methodLink "java/util/ArrayList" (69 : Nat) ({ cls := "java/util/ArrayList", name := "grow", desc := "(I)[Ljava/lang/Object;" } : Jvm.MethodName)) ∈ lw_all := lw_g (lw_at lw_m4 30 rfl) rfl
theorem q843 : (Jvm.Cond.privateMethod ({ cls := "java/util/ArrayList", name := "grow", desc := "(I)[Ljava/lang/Object;" } : Jvm.MethodName)) ∈ lw_tbl := lw_at lw_m4 31 rfl
theorem q844 : (Jvm.Cond.instanceMethod ({ cls := "java/util/ArrayList", name := "grow", desc := "(I)[Ljava/lang/Object;" } : Jvm.MethodName)) ∈ lw_all := lw_g (lw_at lw_m4 32 rfl) rfl
theorem q845 : (Jvm.Cond.code ({ cls := "java/util/ArrayList", name := "grow", desc := "(I)[Ljava/lang/Object;" } : Jvm.MethodName) prog_38_method_6_code (4 : Nat) (Option.some (Jvm.ClassFile.FieldType.array (Jvm.ClassFile.FieldType.object "java/lang/Object")))) ∈ lw_all := lw_g (lw_at lw_m4 33 rfl) rfl
theorem q846 : (Jvm.Cond.methodLink "java/util/ArrayList" (73 : Nat) ({ cls := "jdk/internal/util/ArraysSupport", name := "newLength", desc := "(III)I" } : Jvm.MethodName)) ∈ lw_all := lw_g (lw_at lw_m4 34 rfl) rfl
theorem q856 : (Jvm.Cond.methodLink "java/util/ArrayList" (66 : Nat) ({ cls := "java/util/Arrays", name := "copyOf", desc := "([Ljava/lang/Object;I)[Ljava/lang/Object;" } : Jvm.MethodName)) ∈ lw_all := lw_g (lw_at lw_m4 44 rfl) rfl
theorem q879 : (Jvm.Cond.selects "java/util/ArrayList" ({ cls := "java/lang/Object", name := "getClass", desc := "()Ljava/lang/Class;" } : Jvm.MethodName) ({ cls := "java/lang/Object", name := "getClass", desc := "()Ljava/lang/Class;" } : Jvm.MethodName)) ∈ lw_all := lw_g (lw_at lw_m4 67 rfl) rfl
theorem q889 : (Jvm.Cond.methodLink "java/util/ArrayList" (79 : Nat) ({ cls := "java/lang/Math", name := "max", desc := "(II)I" } : Jvm.MethodName)) ∈ lw_all := lw_g (lw_at lw_m4 77 rfl) rfl
theorem q950 : (Jvm.Cond.selects "java/util/ArrayList" ({ cls := "java/util/List", name := "iterator", desc := "()Ljava/util/Iterator;" } : Jvm.MethodName) ({ cls := "java/util/ArrayList", name := "iterator", desc := "()Ljava/util/Iterator;" } : Jvm.MethodName)) ∈ lw_all := lw_g (lw_at lw_m4 138 rfl) rfl
theorem q951 : (Jvm.Cond.unhidden "java/util/ArrayList" "iterator" "()Ljava/util/Iterator;") ∈ lw_tbl := lw_at lw_m4 139 rfl
theorem q952 : (Jvm.Cond.instanceMethod ({ cls := "java/util/ArrayList", name := "iterator", desc := "()Ljava/util/Iterator;" } : Jvm.MethodName)) ∈ lw_all := lw_g (lw_at lw_m4 140 rfl) rfl
theorem q953 : (Jvm.Cond.publicMethod ({ cls := "java/util/ArrayList", name := "iterator", desc := "()Ljava/util/Iterator;" } : Jvm.MethodName)) ∈ lw_tbl := lw_at lw_m4 141 rfl
theorem q954 : (Jvm.Cond.code ({ cls := "java/util/ArrayList", name := "iterator", desc := "()Ljava/util/Iterator;" } : Jvm.MethodName) prog_38_method_55_code (1 : Nat) (Option.some (Jvm.ClassFile.FieldType.object "java/util/Iterator"))) ∈ lw_all := lw_g (lw_at lw_m4 142 rfl) rfl
theorem q955 : (Jvm.Cond.classLink "java/util/ArrayList" (267 : Nat) "java/util/ArrayList$Itr") ∈ lw_all := lw_g (lw_at lw_m4 143 rfl) rfl
theorem q957 : (Jvm.Cond.methodLink "java/util/ArrayList" (269 : Nat) ({ cls := "java/util/ArrayList$Itr", name := "<init>", desc := "(Ljava/util/ArrayList;)V" } : Jvm.MethodName)) ∈ lw_all := lw_g (lw_at lw_m4 145 rfl) rfl
theorem q1028 : (Jvm.Cond.selects "java/util/ArrayList" ({ cls := "java/util/List", name := "get", desc := "(I)Ljava/lang/Object;" } : Jvm.MethodName) ({ cls := "java/util/ArrayList", name := "get", desc := "(I)Ljava/lang/Object;" } : Jvm.MethodName)) ∈ lw_all := lw_g (lw_at lw_m4 216 rfl) rfl
theorem q1029 : (Jvm.Cond.unhidden "java/util/ArrayList" "get" "(I)Ljava/lang/Object;") ∈ lw_tbl := lw_at lw_m4 217 rfl
theorem q1030 : (Jvm.Cond.instanceMethod ({ cls := "java/util/ArrayList", name := "get", desc := "(I)Ljava/lang/Object;" } : Jvm.MethodName)) ∈ lw_all := lw_g (lw_at lw_m4 218 rfl) rfl
theorem q1031 : (Jvm.Cond.publicMethod ({ cls := "java/util/ArrayList", name := "get", desc := "(I)Ljava/lang/Object;" } : Jvm.MethodName)) ∈ lw_tbl := lw_at lw_m4 219 rfl
theorem q1032 : (Jvm.Cond.code ({ cls := "java/util/ArrayList", name := "get", desc := "(I)Ljava/lang/Object;" } : Jvm.MethodName) prog_38_method_20_code (2 : Nat) (Option.some (Jvm.ClassFile.FieldType.object "java/lang/Object"))) ∈ lw_all := lw_g (lw_at lw_m4 220 rfl) rfl
theorem q1033 : (Jvm.Cond.methodLink "java/util/ArrayList" (118 : Nat) ({ cls := "java/util/Objects", name := "checkIndex", desc := "(II)I" } : Jvm.MethodName)) ∈ lw_all := lw_g (lw_at lw_m4 221 rfl) rfl
theorem q1037 : (Jvm.Cond.methodLink "java/util/ArrayList" (123 : Nat) ({ cls := "java/util/ArrayList", name := "elementData", desc := "(I)Ljava/lang/Object;" } : Jvm.MethodName)) ∈ lw_all := lw_g (lw_at lw_m4 225 rfl) rfl
theorem q1038 : (Jvm.Cond.instanceMethod ({ cls := "java/util/ArrayList", name := "elementData", desc := "(I)Ljava/lang/Object;" } : Jvm.MethodName)) ∈ lw_all := lw_g (lw_at lw_m4 226 rfl) rfl
theorem q1039 : (Jvm.Cond.selects "java/util/ArrayList" ({ cls := "java/util/ArrayList", name := "elementData", desc := "(I)Ljava/lang/Object;" } : Jvm.MethodName) ({ cls := "java/util/ArrayList", name := "elementData", desc := "(I)Ljava/lang/Object;" } : Jvm.MethodName)) ∈ lw_all := lw_g (lw_at lw_m4 227 rfl) rfl
theorem q1040 : (Jvm.Cond.code ({ cls := "java/util/ArrayList", name := "elementData", desc := "(I)Ljava/lang/Object;" } : Jvm.MethodName) prog_38_method_18_code (2 : Nat) (Option.some (Jvm.ClassFile.FieldType.object "java/lang/Object"))) ∈ lw_all := lw_g (lw_at lw_m4 228 rfl) rfl
theorem q1510 : (Jvm.Cond.selects "java/util/ArrayList" ({ cls := "java/util/List", name := "isEmpty", desc := "()Z" } : Jvm.MethodName) ({ cls := "java/util/ArrayList", name := "isEmpty", desc := "()Z" } : Jvm.MethodName)) ∈ lw_all := lw_g (lw_at lw_m6 218 rfl) rfl
theorem q1511 : (Jvm.Cond.unhidden "java/util/ArrayList" "isEmpty" "()Z") ∈ lw_tbl := lw_at lw_m6 219 rfl
theorem q1512 : (Jvm.Cond.instanceMethod ({ cls := "java/util/ArrayList", name := "isEmpty", desc := "()Z" } : Jvm.MethodName)) ∈ lw_all := lw_g (lw_at lw_m6 220 rfl) rfl
theorem q1513 : (Jvm.Cond.publicMethod ({ cls := "java/util/ArrayList", name := "isEmpty", desc := "()Z" } : Jvm.MethodName)) ∈ lw_tbl := lw_at lw_m6 221 rfl
theorem q1514 : (Jvm.Cond.code ({ cls := "java/util/ArrayList", name := "isEmpty", desc := "()Z" } : Jvm.MethodName) prog_38_method_9_code (1 : Nat) (Option.some Jvm.ClassFile.FieldType.boolean)) ∈ lw_all := lw_g (lw_at lw_m6 222 rfl) rfl
theorem q1519 : (Jvm.Cond.selects "java/util/ArrayList" ({ cls := "java/util/List", name := "remove", desc := "(I)Ljava/lang/Object;" } : Jvm.MethodName) ({ cls := "java/util/ArrayList", name := "remove", desc := "(I)Ljava/lang/Object;" } : Jvm.MethodName)) ∈ lw_all := lw_g (lw_at lw_m6 227 rfl) rfl
theorem q1520 : (Jvm.Cond.unhidden "java/util/ArrayList" "remove" "(I)Ljava/lang/Object;") ∈ lw_tbl := lw_at lw_m6 228 rfl
theorem q1521 : (Jvm.Cond.instanceMethod ({ cls := "java/util/ArrayList", name := "remove", desc := "(I)Ljava/lang/Object;" } : Jvm.MethodName)) ∈ lw_all := lw_g (lw_at lw_m6 229 rfl) rfl
theorem q1522 : (Jvm.Cond.publicMethod ({ cls := "java/util/ArrayList", name := "remove", desc := "(I)Ljava/lang/Object;" } : Jvm.MethodName)) ∈ lw_tbl := lw_at lw_m6 230 rfl
theorem q1523 : (Jvm.Cond.code ({ cls := "java/util/ArrayList", name := "remove", desc := "(I)Ljava/lang/Object;" } : Jvm.MethodName) prog_38_method_29_code (4 : Nat) (Option.some (Jvm.ClassFile.FieldType.object "java/lang/Object"))) ∈ lw_all := lw_g (lw_at lw_m6 231 rfl) rfl
theorem q1524 : (Jvm.Cond.methodLink "java/util/ArrayList" (144 : Nat) ({ cls := "java/util/ArrayList", name := "fastRemove", desc := "([Ljava/lang/Object;I)V" } : Jvm.MethodName)) ∈ lw_all := lw_g (lw_at lw_m6 232 rfl) rfl
theorem q1525 : (Jvm.Cond.privateMethod ({ cls := "java/util/ArrayList", name := "fastRemove", desc := "([Ljava/lang/Object;I)V" } : Jvm.MethodName)) ∈ lw_tbl := lw_at lw_m6 233 rfl
theorem q1526 : (Jvm.Cond.instanceMethod ({ cls := "java/util/ArrayList", name := "fastRemove", desc := "([Ljava/lang/Object;I)V" } : Jvm.MethodName)) ∈ lw_all := lw_g (lw_at lw_m6 234 rfl) rfl
theorem q1527 : (Jvm.Cond.code ({ cls := "java/util/ArrayList", name := "fastRemove", desc := "([Ljava/lang/Object;I)V" } : Jvm.MethodName) prog_38_method_39_code (4 : Nat) (Option.none : Option Jvm.ClassFile.FieldType)) ∈ lw_all := lw_g (lw_at lw_m6 235 rfl) rfl
theorem q1528 : (Jvm.Cond.methodLink "java/util/ArrayList" (112 : Nat) ({ cls := "java/lang/System", name := "arraycopy", desc := "(Ljava/lang/Object;ILjava/lang/Object;II)V" } : Jvm.MethodName)) ∈ lw_all := lw_g (lw_at lw_m6 236 rfl) rfl
theorem q1537 : (Jvm.Cond.selects "java/util/ArrayList" ({ cls := "java/util/List", name := "clear", desc := "()V" } : Jvm.MethodName) ({ cls := "java/util/ArrayList", name := "clear", desc := "()V" } : Jvm.MethodName)) ∈ lw_all := lw_g (lw_at lw_m7 5 rfl) rfl
theorem q1538 : (Jvm.Cond.unhidden "java/util/ArrayList" "clear" "()V") ∈ lw_tbl := lw_at lw_m7 6 rfl
theorem q1539 : (Jvm.Cond.instanceMethod ({ cls := "java/util/ArrayList", name := "clear", desc := "()V" } : Jvm.MethodName)) ∈ lw_all := lw_g (lw_at lw_m7 7 rfl) rfl
theorem q1540 : (Jvm.Cond.publicMethod ({ cls := "java/util/ArrayList", name := "clear", desc := "()V" } : Jvm.MethodName)) ∈ lw_tbl := lw_at lw_m7 8 rfl
theorem q1541 : (Jvm.Cond.code ({ cls := "java/util/ArrayList", name := "clear", desc := "()V" } : Jvm.MethodName) prog_38_method_40_code (4 : Nat) (Option.none : Option Jvm.ClassFile.FieldType)) ∈ lw_all := lw_g (lw_at lw_m7 9 rfl) rfl
theorem q1602 : (Jvm.Cond.selects "java/util/ArrayList" ({ cls := "java/util/List", name := "addAll", desc := "(Ljava/util/Collection;)Z" } : Jvm.MethodName) ({ cls := "java/util/ArrayList", name := "addAll", desc := "(Ljava/util/Collection;)Z" } : Jvm.MethodName)) ∈ lw_all := lw_g (lw_at lw_m7 70 rfl) rfl
theorem q1603 : (Jvm.Cond.unhidden "java/util/ArrayList" "addAll" "(Ljava/util/Collection;)Z") ∈ lw_tbl := lw_at lw_m7 71 rfl
theorem q1604 : (Jvm.Cond.instanceMethod ({ cls := "java/util/ArrayList", name := "addAll", desc := "(Ljava/util/Collection;)Z" } : Jvm.MethodName)) ∈ lw_all := lw_g (lw_at lw_m7 72 rfl) rfl
theorem q1605 : (Jvm.Cond.publicMethod ({ cls := "java/util/ArrayList", name := "addAll", desc := "(Ljava/util/Collection;)Z" } : Jvm.MethodName)) ∈ lw_tbl := lw_at lw_m7 73 rfl
theorem q1606 : (Jvm.Cond.code ({ cls := "java/util/ArrayList", name := "addAll", desc := "(Ljava/util/Collection;)Z" } : Jvm.MethodName) prog_38_method_41_code (6 : Nat) (Option.some Jvm.ClassFile.FieldType.boolean)) ∈ lw_all := lw_g (lw_at lw_m7 74 rfl) rfl
theorem q1607 : (Jvm.Cond.interfaceEntry "java/util/ArrayList" (42 : Nat)) ∈ lw_tbl := lw_at lw_m7 75 rfl
theorem q1608 : (Jvm.Cond.methodLink "java/util/ArrayList" (42 : Nat) ({ cls := "java/util/Collection", name := "toArray", desc := "()[Ljava/lang/Object;" } : Jvm.MethodName)) ∈ lw_all := lw_g (lw_at lw_m7 76 rfl) rfl
theorem q1611 : (Jvm.Cond.castable "java/util/ArrayList" "java/util/Collection") ∈ lw_tbl := lw_at lw_m7 79 rfl
theorem q1612 : (Jvm.Cond.selects "java/util/ArrayList" ({ cls := "java/util/Collection", name := "toArray", desc := "()[Ljava/lang/Object;" } : Jvm.MethodName) ({ cls := "java/util/ArrayList", name := "toArray", desc := "()[Ljava/lang/Object;" } : Jvm.MethodName)) ∈ lw_all := lw_g (lw_at lw_m7 80 rfl) rfl
theorem q1613 : (Jvm.Cond.unhidden "java/util/ArrayList" "toArray" "()[Ljava/lang/Object;") ∈ lw_tbl := lw_at lw_m7 81 rfl
theorem q1614 : (Jvm.Cond.instanceMethod ({ cls := "java/util/ArrayList", name := "toArray", desc := "()[Ljava/lang/Object;" } : Jvm.MethodName)) ∈ lw_all := lw_g (lw_at lw_m7 82 rfl) rfl
theorem q1615 : (Jvm.Cond.publicMethod ({ cls := "java/util/ArrayList", name := "toArray", desc := "()[Ljava/lang/Object;" } : Jvm.MethodName)) ∈ lw_tbl := lw_at lw_m7 83 rfl
theorem q1616 : (Jvm.Cond.code ({ cls := "java/util/ArrayList", name := "toArray", desc := "()[Ljava/lang/Object;" } : Jvm.MethodName) prog_38_method_16_code (1 : Nat) (Option.some (Jvm.ClassFile.FieldType.array (Jvm.ClassFile.FieldType.object "java/lang/Object")))) ∈ lw_all := lw_g (lw_at lw_m7 84 rfl) rfl
theorem q2317 : (Jvm.Cond.castable "java/util/ArrayList" "java/lang/Object") ∈ lw_tbl := lw_at lw_m10 65 rfl
theorem in_J2 : ∀ w ∈ wsJ20, w ∈ lw_all := lw_in wsJ20 [380, 376, 378] (by decide +kernel) (by decide +kernel)
theorem q127 : (Jvm.Cond.initialized "java/lang/ClassCastException") ∈ lw_all := lw_g (lw_at lw_m1 35 rfl) rfl
theorem q168 : (Jvm.Cond.selects "java/lang/ClassCastException" ({ cls := "java/lang/Throwable", name := "fillInStackTrace", desc := "()Ljava/lang/Throwable;" } : Jvm.MethodName) ({ cls := "java/lang/Throwable", name := "fillInStackTrace", desc := "()Ljava/lang/Throwable;" } : Jvm.MethodName)) ∈ lw_all := lw_g (lw_at lw_m1 76 rfl) rfl
theorem q298 : (Jvm.Cond.instantiable "java/lang/ClassCastException" (6 : Nat)) ∈ lw_all := lw_g (lw_at lw_m1 206 rfl) rfl
theorem q299 : (Jvm.Cond.instanceMethod ({ cls := "java/lang/ClassCastException", name := "<init>", desc := "(Ljava/lang/String;)V" } : Jvm.MethodName)) ∈ lw_all := lw_g (lw_at lw_m1 207 rfl) rfl
theorem q300 : (Jvm.Cond.code ({ cls := "java/lang/ClassCastException", name := "<init>", desc := "(Ljava/lang/String;)V" } : Jvm.MethodName) prog_18_method_2_code (2 : Nat) (Option.none : Option Jvm.ClassFile.FieldType)) ∈ lw_all := lw_g (lw_at lw_m1 208 rfl) rfl
theorem q301 : (Jvm.Cond.methodLink "java/lang/ClassCastException" (7 : Nat) ({ cls := "java/lang/RuntimeException", name := "<init>", desc := "(Ljava/lang/String;)V" } : Jvm.MethodName)) ∈ lw_all := lw_g (lw_at lw_m1 209 rfl) rfl
theorem q302 : (Jvm.Cond.lays "java/lang/ClassCastException" "java/lang/Throwable" "backtrace" "Ljava/lang/Object;") ∈ lw_all := lw_g (lw_at lw_m1 210 rfl) rfl
theorem q303 : (Jvm.Cond.lays "java/lang/ClassCastException" "java/lang/Throwable" "detailMessage" "Ljava/lang/String;") ∈ lw_all := lw_g (lw_at lw_m1 211 rfl) rfl
theorem q304 : (Jvm.Cond.lays "java/lang/ClassCastException" "java/lang/Throwable" "cause" "Ljava/lang/Throwable;") ∈ lw_all := lw_g (lw_at lw_m1 212 rfl) rfl
theorem q305 : (Jvm.Cond.lays "java/lang/ClassCastException" "java/lang/Throwable" "stackTrace" "[Ljava/lang/StackTraceElement;") ∈ lw_all := lw_g (lw_at lw_m1 213 rfl) rfl
theorem q306 : (Jvm.Cond.lays "java/lang/ClassCastException" "java/lang/Throwable" "depth" "I") ∈ lw_all := lw_g (lw_at lw_m1 214 rfl) rfl
theorem q307 : (Jvm.Cond.lays "java/lang/ClassCastException" "java/lang/Throwable" "suppressedExceptions" "Ljava/util/List;") ∈ lw_all := lw_g (lw_at lw_m1 215 rfl) rfl
theorem q308 : (Jvm.Cond.superclass "java/lang/ClassCastException" "java/lang/RuntimeException") ∈ lw_all := lw_g (lw_at lw_m1 216 rfl) rfl
theorem q309 : (Jvm.Cond.castable "java/lang/ClassCastException" "java/lang/ClassCastException") ∈ lw_tbl := lw_at lw_m1 217 rfl
theorem q310 : (Jvm.Cond.selects "java/lang/ClassCastException" ({ cls := "java/lang/Throwable", name := "fillInStackTrace", desc := "(I)Ljava/lang/Throwable;" } : Jvm.MethodName) ({ cls := "java/lang/Throwable", name := "fillInStackTrace", desc := "(I)Ljava/lang/Throwable;" } : Jvm.MethodName)) ∈ lw_all := lw_g (lw_at lw_m1 218 rfl) rfl
theorem q876 : (Jvm.Cond.selects "java/lang/ClassCastException" ({ cls := "java/lang/Object", name := "getClass", desc := "()Ljava/lang/Class;" } : Jvm.MethodName) ({ cls := "java/lang/Object", name := "getClass", desc := "()Ljava/lang/Class;" } : Jvm.MethodName)) ∈ lw_all := lw_g (lw_at lw_m4 64 rfl) rfl
theorem q2332 : (Jvm.Cond.castable "java/lang/ClassCastException" "java/lang/Object") ∈ lw_tbl := lw_at lw_m10 80 rfl
theorem in_J20 : ∀ w ∈ wsJ200, w ∈ lw_all := lw_in wsJ200 [302, 303, 304, 305, 306, 307] (by decide +kernel) (by decide +kernel)
theorem q157 : (Jvm.Cond.instanceMethod ({ cls := "java/lang/Object", name := "<init>", desc := "()V" } : Jvm.MethodName)) ∈ lw_all := lw_g (lw_at lw_m1 65 rfl) rfl
theorem q158 : (Jvm.Cond.code ({ cls := "java/lang/Object", name := "<init>", desc := "()V" } : Jvm.MethodName) object_method_1_code (1 : Nat) (Option.none : Option Jvm.ClassFile.FieldType)) ∈ lw_all := lw_g (lw_at lw_m1 66 rfl) rfl
theorem q860 : (Jvm.Cond.instanceMethod ({ cls := "java/lang/Object", name := "getClass", desc := "()Ljava/lang/Class;" } : Jvm.MethodName)) ∈ lw_all := lw_g (lw_at lw_m4 48 rfl) rfl
theorem q861 : (Jvm.Cond.sameMethod "java/lang/Object" "java/lang/Object" "getClass" "()Ljava/lang/Class;") ∈ lw_all := lw_g (lw_at lw_m4 49 rfl) rfl
theorem q881 : (Jvm.Cond.native ({ cls := "java/lang/Object", name := "getClass", desc := "()Ljava/lang/Class;" } : Jvm.MethodName)) ∈ lw_all := lw_g (lw_at lw_m4 69 rfl) rfl
theorem q2312 : (Jvm.Cond.initialized "java/lang/Object") ∈ lw_all := lw_g (lw_at lw_m10 60 rfl) rfl
theorem q2337 : (Jvm.Cond.declares ({ cls := "java/lang/Object", name := "getClass", desc := "()Ljava/lang/Class;" } : Jvm.MethodName)) ∈ lw_tbl := lw_at lw_m10 85 rfl
theorem q104 : (Jvm.Cond.initialized "java/lang/Math") ∈ lw_all := lw_g (lw_at lw_m1 12 rfl) rfl
theorem q634 : (Jvm.Cond.static ({ cls := "java/lang/Math", name := "min", desc := "(II)I" } : Jvm.MethodName)) ∈ lw_all := lw_g (lw_at lw_m3 62 rfl) rfl
theorem q635 : (Jvm.Cond.code ({ cls := "java/lang/Math", name := "min", desc := "(II)I" } : Jvm.MethodName) prog_25_method_69_code (2 : Nat) (Option.some Jvm.ClassFile.FieldType.int)) ∈ lw_all := lw_g (lw_at lw_m3 63 rfl) rfl
theorem q850 : (Jvm.Cond.static ({ cls := "java/lang/Math", name := "max", desc := "(II)I" } : Jvm.MethodName)) ∈ lw_all := lw_g (lw_at lw_m4 38 rfl) rfl
theorem q851 : (Jvm.Cond.code ({ cls := "java/lang/Math", name := "max", desc := "(II)I" } : Jvm.MethodName) prog_25_method_65_code (2 : Nat) (Option.some Jvm.ClassFile.FieldType.int)) ∈ lw_all := lw_g (lw_at lw_m4 39 rfl) rfl
theorem q105 : (Jvm.Cond.initialized "java/lang/String") ∈ lw_all := lw_g (lw_at lw_m1 13 rfl) rfl
theorem q225 : (Jvm.Cond.instantiable "java/lang/String" (4 : Nat)) ∈ lw_all := lw_g (lw_at lw_m1 133 rfl) rfl
theorem q227 : (Jvm.Cond.laysFinal "java/lang/String" "java/lang/String" "value" "[B") ∈ lw_all := lw_g (lw_at lw_m1 135 rfl) rfl
theorem q228 : (Jvm.Cond.soleField "java/lang/String" "value") ∈ lw_all := lw_g (lw_at lw_m1 136 rfl) rfl
theorem q229 : (Jvm.Cond.laysFinal "java/lang/String" "java/lang/String" "coder" "B") ∈ lw_all := lw_g (lw_at lw_m1 137 rfl) rfl
theorem q230 : (Jvm.Cond.soleField "java/lang/String" "coder") ∈ lw_all := lw_g (lw_at lw_m1 138 rfl) rfl
theorem q680 : (Jvm.Cond.instanceMethod ({ cls := "java/lang/String", name := "length", desc := "()I" } : Jvm.MethodName)) ∈ lw_all := lw_g (lw_at lw_m3 108 rfl) rfl
theorem q681 : (Jvm.Cond.selects "java/lang/String" ({ cls := "java/lang/String", name := "length", desc := "()I" } : Jvm.MethodName) ({ cls := "java/lang/String", name := "length", desc := "()I" } : Jvm.MethodName)) ∈ lw_all := lw_g (lw_at lw_m3 109 rfl) rfl
theorem q682 : (Jvm.Cond.code ({ cls := "java/lang/String", name := "length", desc := "()I" } : Jvm.MethodName) prog_29_method_54_code (1 : Nat) (Option.some Jvm.ClassFile.FieldType.int)) ∈ lw_all := lw_g (lw_at lw_m3 110 rfl) rfl
theorem q683 : (Jvm.Cond.methodLink "java/lang/String" (335 : Nat) ({ cls := "java/lang/String", name := "coder", desc := "()B" } : Jvm.MethodName)) ∈ lw_all := lw_g (lw_at lw_m3 111 rfl) rfl
theorem q684 : (Jvm.Cond.instanceMethod ({ cls := "java/lang/String", name := "coder", desc := "()B" } : Jvm.MethodName)) ∈ lw_all := lw_g (lw_at lw_m3 112 rfl) rfl
theorem q685 : (Jvm.Cond.selects "java/lang/String" ({ cls := "java/lang/String", name := "coder", desc := "()B" } : Jvm.MethodName) ({ cls := "java/lang/String", name := "coder", desc := "()B" } : Jvm.MethodName)) ∈ lw_all := lw_g (lw_at lw_m3 113 rfl) rfl
theorem q686 : (Jvm.Cond.code ({ cls := "java/lang/String", name := "coder", desc := "()B" } : Jvm.MethodName) prog_29_method_152_code (1 : Nat) (Option.some Jvm.ClassFile.FieldType.byte)) ∈ lw_all := lw_g (lw_at lw_m3 114 rfl) rfl
theorem q687 : (Jvm.Cond.fieldLink "java/lang/String" (38 : Nat) "java/lang/String" "COMPACT_STRINGS" "Z") ∈ lw_all := lw_g (lw_at lw_m3 115 rfl) rfl
theorem q688 : (Jvm.Cond.laysStatic "java/lang/String" "COMPACT_STRINGS" "Z") ∈ lw_tbl := lw_at lw_m3 116 rfl
theorem q690 : (Jvm.Cond.instanceMethod ({ cls := "java/lang/String", name := "charAt", desc := "(I)C" } : Jvm.MethodName)) ∈ lw_all := lw_g (lw_at lw_m3 118 rfl) rfl
theorem q691 : (Jvm.Cond.selects "java/lang/String" ({ cls := "java/lang/String", name := "charAt", desc := "(I)C" } : Jvm.MethodName) ({ cls := "java/lang/String", name := "charAt", desc := "(I)C" } : Jvm.MethodName)) ∈ lw_all := lw_g (lw_at lw_m3 119 rfl) rfl
theorem q692 : (Jvm.Cond.code ({ cls := "java/lang/String", name := "charAt", desc := "(I)C" } : Jvm.MethodName) prog_29_method_56_code (2 : Nat) (Option.some Jvm.ClassFile.FieldType.char)) ∈ lw_all := lw_g (lw_at lw_m3 120 rfl) rfl
theorem q693 : (Jvm.Cond.methodLink "java/lang/String" (492 : Nat) ({ cls := "java/lang/String", name := "isLatin1", desc := "()Z" } : Jvm.MethodName)) ∈ lw_all := lw_g (lw_at lw_m3 121 rfl) rfl
theorem q694 : (Jvm.Cond.instanceMethod ({ cls := "java/lang/String", name := "isLatin1", desc := "()Z" } : Jvm.MethodName)) ∈ lw_all := lw_g (lw_at lw_m3 122 rfl) rfl
theorem q695 : (Jvm.Cond.selects "java/lang/String" ({ cls := "java/lang/String", name := "isLatin1", desc := "()Z" } : Jvm.MethodName) ({ cls := "java/lang/String", name := "isLatin1", desc := "()Z" } : Jvm.MethodName)) ∈ lw_all := lw_g (lw_at lw_m3 123 rfl) rfl
theorem q696 : (Jvm.Cond.code ({ cls := "java/lang/String", name := "isLatin1", desc := "()Z" } : Jvm.MethodName) prog_29_method_154_code (1 : Nat) (Option.some Jvm.ClassFile.FieldType.boolean)) ∈ lw_all := lw_g (lw_at lw_m3 124 rfl) rfl
theorem q697 : (Jvm.Cond.methodLink "java/lang/String" (495 : Nat) ({ cls := "java/lang/StringLatin1", name := "charAt", desc := "([BI)C" } : Jvm.MethodName)) ∈ lw_all := lw_g (lw_at lw_m3 125 rfl) rfl
theorem q701 : (Jvm.Cond.static ({ cls := "java/lang/String", name := "checkIndex", desc := "(II)V" } : Jvm.MethodName)) ∈ lw_all := lw_g (lw_at lw_m3 129 rfl) rfl
theorem q702 : (Jvm.Cond.code ({ cls := "java/lang/String", name := "checkIndex", desc := "(II)V" } : Jvm.MethodName) prog_29_method_155_code (2 : Nat) (Option.none : Option Jvm.ClassFile.FieldType)) ∈ lw_all := lw_g (lw_at lw_m3 130 rfl) rfl
theorem q703 : (Jvm.Cond.fieldLink "java/lang/String" (1053 : Nat) "jdk/internal/util/Preconditions" "SIOOBE_FORMATTER" "Ljava/util/function/BiFunction;") ∈ lw_all := lw_g (lw_at lw_m3 131 rfl) rfl
theorem q705 : (Jvm.Cond.methodLink "java/lang/String" (1059 : Nat) ({ cls := "jdk/internal/util/Preconditions", name := "checkIndex", desc := "(IILjava/util/function/BiFunction;)I" } : Jvm.MethodName)) ∈ lw_all := lw_g (lw_at lw_m3 133 rfl) rfl
theorem q708 : (Jvm.Cond.methodLink "java/lang/String" (498 : Nat) ({ cls := "java/lang/StringUTF16", name := "charAt", desc := "([BI)C" } : Jvm.MethodName)) ∈ lw_all := lw_g (lw_at lw_m3 136 rfl) rfl
theorem q2334 : (Jvm.Cond.castable "java/lang/String" "java/lang/Object") ∈ lw_tbl := lw_at lw_m10 82 rfl
theorem q2346 : (Jvm.Cond.fieldLink "java/lang/String" (9 : Nat) "java/lang/String" "value" "[B") ∈ lw_all := lw_g (lw_at lw_m10 94 rfl) rfl
theorem q2347 : (Jvm.Cond.fieldLink "java/lang/String" (15 : Nat) "java/lang/String" "coder" "B") ∈ lw_all := lw_g (lw_at lw_m10 95 rfl) rfl
theorem in_J4 : ∀ w ∈ wsJ40, w ∈ lw_all := lw_in wsJ40 [227, 229] (by decide +kernel) (by decide +kernel)
theorem q106 : (Jvm.Cond.initialized "java/lang/StringLatin1") ∈ lw_all := lw_g (lw_at lw_m1 14 rfl) rfl
theorem q698 : (Jvm.Cond.static ({ cls := "java/lang/StringLatin1", name := "charAt", desc := "([BI)C" } : Jvm.MethodName)) ∈ lw_all := lw_g (lw_at lw_m3 126 rfl) rfl
theorem q699 : (Jvm.Cond.code ({ cls := "java/lang/StringLatin1", name := "charAt", desc := "([BI)C" } : Jvm.MethodName) prog_30_method_2_code (2 : Nat) (Option.some Jvm.ClassFile.FieldType.char)) ∈ lw_all := lw_g (lw_at lw_m3 127 rfl) rfl
theorem q700 : (Jvm.Cond.methodLink "java/lang/StringLatin1" (9 : Nat) ({ cls := "java/lang/String", name := "checkIndex", desc := "(II)V" } : Jvm.MethodName)) ∈ lw_all := lw_g (lw_at lw_m3 128 rfl) rfl
theorem q107 : (Jvm.Cond.initialized "jdk/internal/util/Preconditions") ∈ lw_all := lw_g (lw_at lw_m1 15 rfl) rfl
theorem q704 : (Jvm.Cond.laysStatic "jdk/internal/util/Preconditions" "SIOOBE_FORMATTER" "Ljava/util/function/BiFunction;") ∈ lw_tbl := lw_at lw_m3 132 rfl
theorem q706 : (Jvm.Cond.static ({ cls := "jdk/internal/util/Preconditions", name := "checkIndex", desc := "(IILjava/util/function/BiFunction;)I" } : Jvm.MethodName)) ∈ lw_all := lw_g (lw_at lw_m3 134 rfl) rfl
theorem q707 : (Jvm.Cond.code ({ cls := "jdk/internal/util/Preconditions", name := "checkIndex", desc := "(IILjava/util/function/BiFunction;)I" } : Jvm.MethodName) prog_48_method_11_code (3 : Nat) (Option.some Jvm.ClassFile.FieldType.int)) ∈ lw_all := lw_g (lw_at lw_m3 135 rfl) rfl
theorem q108 : (Jvm.Cond.initialized "java/lang/StringUTF16") ∈ lw_all := lw_g (lw_at lw_m1 16 rfl) rfl
theorem q709 : (Jvm.Cond.static ({ cls := "java/lang/StringUTF16", name := "charAt", desc := "([BI)C" } : Jvm.MethodName)) ∈ lw_all := lw_g (lw_at lw_m3 137 rfl) rfl
theorem q710 : (Jvm.Cond.code ({ cls := "java/lang/StringUTF16", name := "charAt", desc := "([BI)C" } : Jvm.MethodName) prog_31_method_83_code (2 : Nat) (Option.some Jvm.ClassFile.FieldType.char)) ∈ lw_all := lw_g (lw_at lw_m3 138 rfl) rfl
theorem q711 : (Jvm.Cond.methodLink "java/lang/StringUTF16" (67 : Nat) ({ cls := "java/lang/StringUTF16", name := "checkIndex", desc := "(I[B)V" } : Jvm.MethodName)) ∈ lw_all := lw_g (lw_at lw_m3 139 rfl) rfl
theorem q712 : (Jvm.Cond.static ({ cls := "java/lang/StringUTF16", name := "checkIndex", desc := "(I[B)V" } : Jvm.MethodName)) ∈ lw_all := lw_g (lw_at lw_m3 140 rfl) rfl
theorem q713 : (Jvm.Cond.code ({ cls := "java/lang/StringUTF16", name := "checkIndex", desc := "(I[B)V" } : Jvm.MethodName) prog_31_method_91_code (2 : Nat) (Option.none : Option Jvm.ClassFile.FieldType)) ∈ lw_all := lw_g (lw_at lw_m3 141 rfl) rfl
theorem q714 : (Jvm.Cond.methodLink "java/lang/StringUTF16" (48 : Nat) ({ cls := "java/lang/StringUTF16", name := "length", desc := "([B)I" } : Jvm.MethodName)) ∈ lw_all := lw_g (lw_at lw_m3 142 rfl) rfl
theorem q715 : (Jvm.Cond.static ({ cls := "java/lang/StringUTF16", name := "length", desc := "([B)I" } : Jvm.MethodName)) ∈ lw_all := lw_g (lw_at lw_m3 143 rfl) rfl
theorem q716 : (Jvm.Cond.code ({ cls := "java/lang/StringUTF16", name := "length", desc := "([B)I" } : Jvm.MethodName) prog_31_method_6_code (1 : Nat) (Option.some Jvm.ClassFile.FieldType.int)) ∈ lw_all := lw_g (lw_at lw_m3 144 rfl) rfl
theorem q717 : (Jvm.Cond.methodLink "java/lang/StringUTF16" (414 : Nat) ({ cls := "java/lang/String", name := "checkIndex", desc := "(II)V" } : Jvm.MethodName)) ∈ lw_all := lw_g (lw_at lw_m3 145 rfl) rfl
theorem q718 : (Jvm.Cond.methodLink "java/lang/StringUTF16" (71 : Nat) ({ cls := "java/lang/StringUTF16", name := "getChar", desc := "([BI)C" } : Jvm.MethodName)) ∈ lw_all := lw_g (lw_at lw_m3 146 rfl) rfl
theorem q719 : (Jvm.Cond.static ({ cls := "java/lang/StringUTF16", name := "getChar", desc := "([BI)C" } : Jvm.MethodName)) ∈ lw_all := lw_g (lw_at lw_m3 147 rfl) rfl
theorem q720 : (Jvm.Cond.code ({ cls := "java/lang/StringUTF16", name := "getChar", desc := "([BI)C" } : Jvm.MethodName) prog_31_method_5_code (2 : Nat) (Option.some Jvm.ClassFile.FieldType.char)) ∈ lw_all := lw_g (lw_at lw_m3 148 rfl) rfl
theorem q721 : (Jvm.Cond.fieldLink "java/lang/StringUTF16" (44 : Nat) "java/lang/StringUTF16" "$assertionsDisabled" "Z") ∈ lw_all := lw_g (lw_at lw_m3 149 rfl) rfl
theorem q722 : (Jvm.Cond.laysStatic "java/lang/StringUTF16" "$assertionsDisabled" "Z") ∈ lw_tbl := lw_at lw_m3 150 rfl
theorem q723 : (Jvm.Cond.fieldLink "java/lang/StringUTF16" (59 : Nat) "java/lang/StringUTF16" "HI_BYTE_SHIFT" "I") ∈ lw_all := lw_g (lw_at lw_m3 151 rfl) rfl
theorem q724 : (Jvm.Cond.laysStatic "java/lang/StringUTF16" "HI_BYTE_SHIFT" "I") ∈ lw_tbl := lw_at lw_m3 152 rfl
theorem q725 : (Jvm.Cond.fieldLink "java/lang/StringUTF16" (63 : Nat) "java/lang/StringUTF16" "LO_BYTE_SHIFT" "I") ∈ lw_all := lw_g (lw_at lw_m3 153 rfl) rfl
theorem q726 : (Jvm.Cond.laysStatic "java/lang/StringUTF16" "LO_BYTE_SHIFT" "I") ∈ lw_tbl := lw_at lw_m3 154 rfl
theorem q109 : (Jvm.Cond.initialized "java/lang/Throwable") ∈ lw_all := lw_g (lw_at lw_m1 17 rfl) rfl
theorem q154 : (Jvm.Cond.instanceMethod ({ cls := "java/lang/Throwable", name := "<init>", desc := "(Ljava/lang/String;)V" } : Jvm.MethodName)) ∈ lw_all := lw_g (lw_at lw_m1 62 rfl) rfl
theorem q155 : (Jvm.Cond.code ({ cls := "java/lang/Throwable", name := "<init>", desc := "(Ljava/lang/String;)V" } : Jvm.MethodName) prog_33_method_2_code (2 : Nat) (Option.none : Option Jvm.ClassFile.FieldType)) ∈ lw_all := lw_g (lw_at lw_m1 63 rfl) rfl
theorem q156 : (Jvm.Cond.methodLink "java/lang/Throwable" (1 : Nat) ({ cls := "java/lang/Object", name := "<init>", desc := "()V" } : Jvm.MethodName)) ∈ lw_all := lw_g (lw_at lw_m1 64 rfl) rfl
theorem q159 : (Jvm.Cond.fieldLink "java/lang/Throwable" (13 : Nat) "java/lang/Throwable" "UNASSIGNED_STACK" "[Ljava/lang/StackTraceElement;") ∈ lw_all := lw_g (lw_at lw_m1 67 rfl) rfl
theorem q160 : (Jvm.Cond.laysStatic "java/lang/Throwable" "UNASSIGNED_STACK" "[Ljava/lang/StackTraceElement;") ∈ lw_tbl := lw_at lw_m1 68 rfl
theorem q161 : (Jvm.Cond.fieldLink "java/lang/Throwable" (20 : Nat) "java/lang/Throwable" "SUPPRESSED_SENTINEL" "Ljava/util/List;") ∈ lw_all := lw_g (lw_at lw_m1 69 rfl) rfl
theorem q162 : (Jvm.Cond.laysStatic "java/lang/Throwable" "SUPPRESSED_SENTINEL" "Ljava/util/List;") ∈ lw_tbl := lw_at lw_m1 70 rfl
theorem q163 : (Jvm.Cond.methodLink "java/lang/Throwable" (27 : Nat) ({ cls := "java/lang/Throwable", name := "fillInStackTrace", desc := "()Ljava/lang/Throwable;" } : Jvm.MethodName)) ∈ lw_all := lw_g (lw_at lw_m1 71 rfl) rfl
theorem q164 : (Jvm.Cond.instanceMethod ({ cls := "java/lang/Throwable", name := "fillInStackTrace", desc := "()Ljava/lang/Throwable;" } : Jvm.MethodName)) ∈ lw_all := lw_g (lw_at lw_m1 72 rfl) rfl
theorem q165 : (Jvm.Cond.sameMethod "java/lang/Throwable" "java/lang/Throwable" "fillInStackTrace" "()Ljava/lang/Throwable;") ∈ lw_all := lw_g (lw_at lw_m1 73 rfl) rfl
theorem q180 : (Jvm.Cond.declares ({ cls := "java/lang/Throwable", name := "fillInStackTrace", desc := "()Ljava/lang/Throwable;" } : Jvm.MethodName)) ∈ lw_tbl := lw_at lw_m1 88 rfl
theorem q184 : (Jvm.Cond.codeSync ({ cls := "java/lang/Throwable", name := "fillInStackTrace", desc := "()Ljava/lang/Throwable;" } : Jvm.MethodName) prog_33_method_18_code (1 : Nat) (Option.some (Jvm.ClassFile.FieldType.object "java/lang/Throwable"))) ∈ lw_all := lw_g (lw_at lw_m1 92 rfl) rfl
theorem q185 : (Jvm.Cond.methodLink "java/lang/Throwable" (202 : Nat) ({ cls := "java/lang/Throwable", name := "fillInStackTrace", desc := "(I)Ljava/lang/Throwable;" } : Jvm.MethodName)) ∈ lw_all := lw_g (lw_at lw_m1 93 rfl) rfl
theorem q186 : (Jvm.Cond.privateMethod ({ cls := "java/lang/Throwable", name := "fillInStackTrace", desc := "(I)Ljava/lang/Throwable;" } : Jvm.MethodName)) ∈ lw_tbl := lw_at lw_m1 94 rfl
theorem q187 : (Jvm.Cond.instanceMethod ({ cls := "java/lang/Throwable", name := "fillInStackTrace", desc := "(I)Ljava/lang/Throwable;" } : Jvm.MethodName)) ∈ lw_all := lw_g (lw_at lw_m1 95 rfl) rfl
theorem q188 : (Jvm.Cond.instantiable "java/lang/Throwable" (6 : Nat)) ∈ lw_all := lw_g (lw_at lw_m1 96 rfl) rfl
theorem q189 : (Jvm.Cond.native ({ cls := "java/lang/Throwable", name := "fillInStackTrace", desc := "(I)Ljava/lang/Throwable;" } : Jvm.MethodName)) ∈ lw_all := lw_g (lw_at lw_m1 97 rfl) rfl
theorem q190 : (Jvm.Cond.fieldLink "java/lang/Throwable" (198 : Nat) "java/lang/Throwable" "backtrace" "Ljava/lang/Object;") ∈ lw_all := lw_g (lw_at lw_m1 98 rfl) rfl
theorem q191 : (Jvm.Cond.fieldLink "java/lang/Throwable" (31 : Nat) "java/lang/Throwable" "detailMessage" "Ljava/lang/String;") ∈ lw_all := lw_g (lw_at lw_m1 99 rfl) rfl
theorem q192 : (Jvm.Cond.fieldLink "java/lang/Throwable" (7 : Nat) "java/lang/Throwable" "cause" "Ljava/lang/Throwable;") ∈ lw_all := lw_g (lw_at lw_m1 100 rfl) rfl
theorem q193 : (Jvm.Cond.fieldLink "java/lang/Throwable" (17 : Nat) "java/lang/Throwable" "stackTrace" "[Ljava/lang/StackTraceElement;") ∈ lw_all := lw_g (lw_at lw_m1 101 rfl) rfl
theorem q194 : (Jvm.Cond.fieldLink "java/lang/Throwable" (24 : Nat) "java/lang/Throwable" "suppressedExceptions" "Ljava/util/List;") ∈ lw_all := lw_g (lw_at lw_m1 102 rfl) rfl
theorem q196 : (Jvm.Cond.soleField "java/lang/Throwable" "backtrace") ∈ lw_all := lw_g (lw_at lw_m1 104 rfl) rfl
theorem q198 : (Jvm.Cond.soleField "java/lang/Throwable" "detailMessage") ∈ lw_all := lw_g (lw_at lw_m1 106 rfl) rfl
theorem q200 : (Jvm.Cond.soleField "java/lang/Throwable" "cause") ∈ lw_all := lw_g (lw_at lw_m1 108 rfl) rfl
theorem q202 : (Jvm.Cond.soleField "java/lang/Throwable" "stackTrace") ∈ lw_all := lw_g (lw_at lw_m1 110 rfl) rfl
theorem q204 : (Jvm.Cond.soleField "java/lang/Throwable" "depth") ∈ lw_all := lw_g (lw_at lw_m1 112 rfl) rfl
theorem q206 : (Jvm.Cond.soleField "java/lang/Throwable" "suppressedExceptions") ∈ lw_all := lw_g (lw_at lw_m1 114 rfl) rfl
theorem q213 : (Jvm.Cond.declares ({ cls := "java/lang/Throwable", name := "<init>", desc := "()V" } : Jvm.MethodName)) ∈ lw_tbl := lw_at lw_m1 121 rfl
theorem q214 : (Jvm.Cond.declares ({ cls := "java/lang/Throwable", name := "<init>", desc := "(Ljava/lang/String;)V" } : Jvm.MethodName)) ∈ lw_tbl := lw_at lw_m1 122 rfl
theorem q216 : (Jvm.Cond.lays "java/lang/Throwable" "java/lang/Throwable" "cause" "Ljava/lang/Throwable;") ∈ lw_all := lw_g (lw_at lw_m1 124 rfl) rfl
theorem q217 : (Jvm.Cond.lays "java/lang/Throwable" "java/lang/Throwable" "stackTrace" "[Ljava/lang/StackTraceElement;") ∈ lw_all := lw_g (lw_at lw_m1 125 rfl) rfl
theorem q218 : (Jvm.Cond.lays "java/lang/Throwable" "java/lang/Throwable" "suppressedExceptions" "Ljava/util/List;") ∈ lw_all := lw_g (lw_at lw_m1 126 rfl) rfl
theorem q219 : (Jvm.Cond.lays "java/lang/Throwable" "java/lang/Throwable" "detailMessage" "Ljava/lang/String;") ∈ lw_all := lw_g (lw_at lw_m1 127 rfl) rfl
theorem q220 : (Jvm.Cond.lays "java/lang/Throwable" "java/lang/Throwable" "backtrace" "Ljava/lang/Object;") ∈ lw_all := lw_g (lw_at lw_m1 128 rfl) rfl
theorem q221 : (Jvm.Cond.fieldLink "java/lang/Throwable" (198 : Nat) "java/lang/Throwable" "backtrace" "Ljava/lang/Object;") ∈ lw_all := lw_g (lw_at lw_m1 129 rfl) rfl
theorem q222 : (Jvm.Cond.superclass "java/lang/Throwable" "java/lang/Object") ∈ lw_all := lw_g (lw_at lw_m1 130 rfl) rfl
theorem q223 : (Jvm.Cond.instanceMethod ({ cls := "java/lang/Throwable", name := "<init>", desc := "()V" } : Jvm.MethodName)) ∈ lw_all := lw_g (lw_at lw_m1 131 rfl) rfl
theorem q224 : (Jvm.Cond.code ({ cls := "java/lang/Throwable", name := "<init>", desc := "()V" } : Jvm.MethodName) prog_33_method_1_code (1 : Nat) (Option.none : Option Jvm.ClassFile.FieldType)) ∈ lw_all := lw_g (lw_at lw_m1 132 rfl) rfl
theorem q750 : (Jvm.Cond.instanceMethod ({ cls := "java/lang/Throwable", name := "<init>", desc := "(Ljava/lang/String;Ljava/lang/Throwable;ZZ)V" } : Jvm.MethodName)) ∈ lw_all := lw_g (lw_at lw_m3 178 rfl) rfl
theorem q751 : (Jvm.Cond.code ({ cls := "java/lang/Throwable", name := "<init>", desc := "(Ljava/lang/String;Ljava/lang/Throwable;ZZ)V" } : Jvm.MethodName) prog_33_method_5_code (5 : Nat) (Option.none : Option Jvm.ClassFile.FieldType)) ∈ lw_all := lw_g (lw_at lw_m3 179 rfl) rfl
theorem q2311 : (Jvm.Cond.sameMethod "java/lang/Throwable" "java/lang/Throwable" "fillInStackTrace" "(I)Ljava/lang/Throwable;") ∈ lw_all := lw_g (lw_at lw_m10 59 rfl) rfl
theorem q2333 : (Jvm.Cond.castable "java/lang/Throwable" "java/lang/Object") ∈ lw_tbl := lw_at lw_m10 81 rfl
theorem in_J8 : ∀ w ∈ wsJ80, w ∈ lw_all := lw_in wsJ80 [216, 217, 218, 219, 220] (by decide +kernel) (by decide +kernel)
theorem q110 : (Jvm.Cond.initialized "java/lang/Exception") ∈ lw_all := lw_g (lw_at lw_m1 18 rfl) rfl
theorem q151 : (Jvm.Cond.instanceMethod ({ cls := "java/lang/Exception", name := "<init>", desc := "(Ljava/lang/String;)V" } : Jvm.MethodName)) ∈ lw_all := lw_g (lw_at lw_m1 59 rfl) rfl
theorem q152 : (Jvm.Cond.code ({ cls := "java/lang/Exception", name := "<init>", desc := "(Ljava/lang/String;)V" } : Jvm.MethodName) prog_21_method_2_code (2 : Nat) (Option.none : Option Jvm.ClassFile.FieldType)) ∈ lw_all := lw_g (lw_at lw_m1 60 rfl) rfl
theorem q153 : (Jvm.Cond.methodLink "java/lang/Exception" (7 : Nat) ({ cls := "java/lang/Throwable", name := "<init>", desc := "(Ljava/lang/String;)V" } : Jvm.MethodName)) ∈ lw_all := lw_g (lw_at lw_m1 61 rfl) rfl
theorem q183 : (Jvm.Cond.superclass "java/lang/Exception" "java/lang/Throwable") ∈ lw_all := lw_g (lw_at lw_m1 91 rfl) rfl
theorem q211 : (Jvm.Cond.declares ({ cls := "java/lang/Exception", name := "<init>", desc := "()V" } : Jvm.MethodName)) ∈ lw_tbl := lw_at lw_m1 119 rfl
theorem q212 : (Jvm.Cond.declares ({ cls := "java/lang/Exception", name := "<init>", desc := "(Ljava/lang/String;)V" } : Jvm.MethodName)) ∈ lw_tbl := lw_at lw_m1 120 rfl
theorem q249 : (Jvm.Cond.instanceMethod ({ cls := "java/lang/Exception", name := "<init>", desc := "()V" } : Jvm.MethodName)) ∈ lw_all := lw_g (lw_at lw_m1 157 rfl) rfl
theorem q250 : (Jvm.Cond.code ({ cls := "java/lang/Exception", name := "<init>", desc := "()V" } : Jvm.MethodName) prog_21_method_1_code (1 : Nat) (Option.none : Option Jvm.ClassFile.FieldType)) ∈ lw_all := lw_g (lw_at lw_m1 158 rfl) rfl
theorem q251 : (Jvm.Cond.methodLink "java/lang/Exception" (1 : Nat) ({ cls := "java/lang/Throwable", name := "<init>", desc := "()V" } : Jvm.MethodName)) ∈ lw_all := lw_g (lw_at lw_m1 159 rfl) rfl
theorem q747 : (Jvm.Cond.instanceMethod ({ cls := "java/lang/Exception", name := "<init>", desc := "(Ljava/lang/String;Ljava/lang/Throwable;ZZ)V" } : Jvm.MethodName)) ∈ lw_all := lw_g (lw_at lw_m3 175 rfl) rfl
theorem q748 : (Jvm.Cond.code ({ cls := "java/lang/Exception", name := "<init>", desc := "(Ljava/lang/String;Ljava/lang/Throwable;ZZ)V" } : Jvm.MethodName) prog_21_method_5_code (5 : Nat) (Option.none : Option Jvm.ClassFile.FieldType)) ∈ lw_all := lw_g (lw_at lw_m3 176 rfl) rfl
theorem q749 : (Jvm.Cond.methodLink "java/lang/Exception" (16 : Nat) ({ cls := "java/lang/Throwable", name := "<init>", desc := "(Ljava/lang/String;Ljava/lang/Throwable;ZZ)V" } : Jvm.MethodName)) ∈ lw_all := lw_g (lw_at lw_m3 177 rfl) rfl
theorem q93 : (Jvm.Cond.initialized "QuotedRiver") ∈ lw_all := lw_g (lw_at lw_m1 1 rfl) rfl
theorem q129 : (Jvm.Cond.instanceMethod ({ cls := "QuotedRiver", name := "row", desc := "(III)I" } : Jvm.MethodName)) ∈ lw_all := lw_g (lw_at lw_m1 37 rfl) rfl
theorem q130 : (Jvm.Cond.selects "QuotedRiver" ({ cls := "QuotedRiver", name := "row", desc := "(III)I" } : Jvm.MethodName) ({ cls := "QuotedRiver", name := "row", desc := "(III)I" } : Jvm.MethodName)) ∈ lw_all := lw_g (lw_at lw_m1 38 rfl) rfl
theorem q131 : (Jvm.Cond.code ({ cls := "QuotedRiver", name := "row", desc := "(III)I" } : Jvm.MethodName) prog_1_method_5_code (4 : Nat) (Option.some Jvm.ClassFile.FieldType.int)) ∈ lw_all := lw_g (lw_at lw_m1 39 rfl) rfl
theorem q132 : (Jvm.Cond.methodLink "QuotedRiver" (15 : Nat) ({ cls := "QuotedRiver", name := "isSlot", desc := "(I)Z" } : Jvm.MethodName)) ∈ lw_all := lw_g (lw_at lw_m1 40 rfl) rfl
theorem q133 : (Jvm.Cond.static ({ cls := "QuotedRiver", name := "isSlot", desc := "(I)Z" } : Jvm.MethodName)) ∈ lw_all := lw_g (lw_at lw_m1 41 rfl) rfl
theorem q134 : (Jvm.Cond.code ({ cls := "QuotedRiver", name := "isSlot", desc := "(I)Z" } : Jvm.MethodName) prog_1_method_4_code (1 : Nat) (Option.some Jvm.ClassFile.FieldType.boolean)) ∈ lw_all := lw_g (lw_at lw_m1 42 rfl) rfl
theorem q135 : (Jvm.Cond.constantLong "QuotedRiver" (9 : Nat) (3 : Int64)) ∈ lw_all := lw_g (lw_at lw_m1 43 rfl) rfl
theorem q136 : (Jvm.Cond.methodLink "QuotedRiver" (11 : Nat) ({ cls := "QuotedRiver", name := "in", desc := "(JJJ)Z" } : Jvm.MethodName)) ∈ lw_all := lw_g (lw_at lw_m1 44 rfl) rfl
theorem q137 : (Jvm.Cond.static ({ cls := "QuotedRiver", name := "in", desc := "(JJJ)Z" } : Jvm.MethodName)) ∈ lw_all := lw_g (lw_at lw_m1 45 rfl) rfl
theorem q138 : (Jvm.Cond.code ({ cls := "QuotedRiver", name := "in", desc := "(JJJ)Z" } : Jvm.MethodName) prog_1_method_1_code (6 : Nat) (Option.some Jvm.ClassFile.FieldType.boolean)) ∈ lw_all := lw_g (lw_at lw_m1 46 rfl) rfl
theorem q139 : (Jvm.Cond.methodLink "QuotedRiver" (23 : Nat) ({ cls := "QuotedRiver$Slot", name := "begins", desc := "(II)Z" } : Jvm.MethodName)) ∈ lw_all := lw_g (lw_at lw_m1 47 rfl) rfl
theorem q235 : (Jvm.Cond.instanceMethod ({ cls := "QuotedRiver", name := "write", desc := "(IIJ)I" } : Jvm.MethodName)) ∈ lw_all := lw_g (lw_at lw_m1 143 rfl) rfl
theorem q236 : (Jvm.Cond.selects "QuotedRiver" ({ cls := "QuotedRiver", name := "write", desc := "(IIJ)I" } : Jvm.MethodName) ({ cls := "QuotedRiver", name := "write", desc := "(IIJ)I" } : Jvm.MethodName)) ∈ lw_all := lw_g (lw_at lw_m1 144 rfl) rfl
theorem q237 : (Jvm.Cond.code ({ cls := "QuotedRiver", name := "write", desc := "(IIJ)I" } : Jvm.MethodName) prog_1_method_6_code (5 : Nat) (Option.some Jvm.ClassFile.FieldType.int)) ∈ lw_all := lw_g (lw_at lw_m1 145 rfl) rfl
theorem q238 : (Jvm.Cond.methodLink "QuotedRiver" (29 : Nat) ({ cls := "QuotedRiver$Slot", name := "puts", desc := "(IJ)I" } : Jvm.MethodName)) ∈ lw_all := lw_g (lw_at lw_m1 146 rfl) rfl
theorem q314 : (Jvm.Cond.instanceMethod ({ cls := "QuotedRiver", name := "paste", desc := "(IIIII)I" } : Jvm.MethodName)) ∈ lw_all := lw_g (lw_at lw_m1 222 rfl) rfl
theorem q315 : (Jvm.Cond.selects "QuotedRiver" ({ cls := "QuotedRiver", name := "paste", desc := "(IIIII)I" } : Jvm.MethodName) ({ cls := "QuotedRiver", name := "paste", desc := "(IIIII)I" } : Jvm.MethodName)) ∈ lw_all := lw_g (lw_at lw_m1 223 rfl) rfl
theorem q316 : (Jvm.Cond.code ({ cls := "QuotedRiver", name := "paste", desc := "(IIIII)I" } : Jvm.MethodName) prog_1_method_7_code (6 : Nat) (Option.some Jvm.ClassFile.FieldType.int)) ∈ lw_all := lw_g (lw_at lw_m1 224 rfl) rfl
theorem q317 : (Jvm.Cond.methodLink "QuotedRiver" (33 : Nat) ({ cls := "QuotedRiver$Slot", name := "pastes", desc := "(ILQuotedRiver$Slot;II)I" } : Jvm.MethodName)) ∈ lw_all := lw_g (lw_at lw_m1 225 rfl) rfl
theorem q330 : (Jvm.Cond.instantiable "QuotedRiver" (15 : Nat)) ∈ lw_all := lw_g (lw_at lw_m1 238 rfl) rfl
theorem q332 : (Jvm.Cond.instanceMethod ({ cls := "QuotedRiver", name := "<init>", desc := "()V" } : Jvm.MethodName)) ∈ lw_all := lw_g (lw_at lw_m2 0 rfl) rfl
theorem q333 : (Jvm.Cond.code ({ cls := "QuotedRiver", name := "<init>", desc := "()V" } : Jvm.MethodName) prog_1_method_8_code (1 : Nat) (Option.none : Option Jvm.ClassFile.FieldType)) ∈ lw_all := lw_g (lw_at lw_m2 1 rfl) rfl
theorem q334 : (Jvm.Cond.methodLink "QuotedRiver" (37 : Nat) ({ cls := "java/lang/Object", name := "<init>", desc := "()V" } : Jvm.MethodName)) ∈ lw_all := lw_g (lw_at lw_m2 2 rfl) rfl
theorem q335 : (Jvm.Cond.classLink "QuotedRiver" (24 : Nat) "QuotedRiver$Slot") ∈ lw_all := lw_g (lw_at lw_m2 3 rfl) rfl
theorem q337 : (Jvm.Cond.methodLinkNest "QuotedRiver" (43 : Nat) ({ cls := "QuotedRiver$Slot", name := "<init>", desc := "()V" } : Jvm.MethodName) "QuotedRiver") ∈ lw_tbl := lw_at lw_m2 5 rfl
theorem q342 : (Jvm.Cond.fieldLinkNest "QuotedRiver" (325 : Nat) "QuotedRiver$Slot" "held" "Ljava/lang/Object;" "QuotedRiver") ∈ lw_tbl := lw_at lw_m2 10 rfl
theorem q346 : (Jvm.Cond.classLink "QuotedRiver" (44 : Nat) "QuotedRiver$Rivers") ∈ lw_all := lw_g (lw_at lw_m2 14 rfl) rfl
theorem q348 : (Jvm.Cond.methodLinkNest "QuotedRiver" (46 : Nat) ({ cls := "QuotedRiver$Rivers", name := "<init>", desc := "()V" } : Jvm.MethodName) "QuotedRiver") ∈ lw_tbl := lw_at lw_m2 16 rfl
theorem q390 : (Jvm.Cond.fieldLinkNest "QuotedRiver" (126 : Nat) "QuotedRiver$Rivers" "reaches" "Ljava/util/List;" "QuotedRiver") ∈ lw_tbl := lw_at lw_m2 58 rfl
theorem q394 : (Jvm.Cond.fieldLinkNest "QuotedRiver" (142 : Nat) "QuotedRiver$Rivers" "joins" "Ljava/util/List;" "QuotedRiver") ∈ lw_tbl := lw_at lw_m2 62 rfl
theorem q398 : (Jvm.Cond.fieldLinkNest "QuotedRiver" (283 : Nat) "QuotedRiver$Rivers" "rains" "Ljava/util/List;" "QuotedRiver") ∈ lw_tbl := lw_at lw_m2 66 rfl
theorem q401 : (Jvm.Cond.fieldLinkNest "QuotedRiver" (403 : Nat) "QuotedRiver$Rivers" "acts" "Ljava/util/List;" "QuotedRiver") ∈ lw_tbl := lw_at lw_m2 69 rfl
theorem q405 : (Jvm.Cond.fieldLinkNest "QuotedRiver" (446 : Nat) "QuotedRiver$Rivers" "level" "I" "QuotedRiver") ∈ lw_tbl := lw_at lw_m2 73 rfl
theorem q409 : (Jvm.Cond.fieldLinkNest "QuotedRiver" (384 : Nat) "QuotedRiver$Rivers" "odds" "I" "QuotedRiver") ∈ lw_tbl := lw_at lw_m2 77 rfl
theorem q413 : (Jvm.Cond.fieldLinkNest "QuotedRiver" (387 : Nat) "QuotedRiver$Rivers" "swell" "I" "QuotedRiver") ∈ lw_tbl := lw_at lw_m2 81 rfl
theorem q415 : (Jvm.Cond.fieldLinkNest "QuotedRiver" (115 : Nat) "QuotedRiver$Rivers" "lines" "I" "QuotedRiver") ∈ lw_tbl := lw_at lw_m2 83 rfl
theorem q435 : (Jvm.Cond.classLink "QuotedRiver" (63 : Nat) "QuotedRiver$Water") ∈ lw_all := lw_g (lw_at lw_m2 103 rfl) rfl
theorem q437 : (Jvm.Cond.methodLinkNest "QuotedRiver" (65 : Nat) ({ cls := "QuotedRiver$Water", name := "<init>", desc := "(LQuotedRiver;)V" } : Jvm.MethodName) "QuotedRiver") ∈ lw_tbl := lw_at lw_m2 105 rfl
theorem q442 : (Jvm.Cond.fieldLinkNest "QuotedRiver" (223 : Nat) "QuotedRiver$Water" "level" "[I" "QuotedRiver") ∈ lw_tbl := lw_at lw_m2 110 rfl
theorem q444 : (Jvm.Cond.fieldLinkNest "QuotedRiver" (220 : Nat) "QuotedRiver$Water" "told" "[I" "QuotedRiver") ∈ lw_tbl := lw_at lw_m2 112 rfl
theorem q446 : (Jvm.Cond.fieldLinkNest "QuotedRiver" (234 : Nat) "QuotedRiver$Water" "shut" "I" "QuotedRiver") ∈ lw_tbl := lw_at lw_m2 114 rfl
theorem q449 : (Jvm.Cond.fieldLinkNest "QuotedRiver" (309 : Nat) "QuotedRiver$Water" "stopped" "I" "QuotedRiver") ∈ lw_tbl := lw_at lw_m2 117 rfl
theorem q451 : (Jvm.Cond.fieldLinkNest "QuotedRiver" (355 : Nat) "QuotedRiver$Water" "turned" "I" "QuotedRiver") ∈ lw_tbl := lw_at lw_m2 119 rfl
theorem q453 : (Jvm.Cond.fieldLinkNest "QuotedRiver" (361 : Nat) "QuotedRiver$Water" "each" "I" "QuotedRiver") ∈ lw_tbl := lw_at lw_m2 121 rfl
theorem q455 : (Jvm.Cond.fieldLinkNest "QuotedRiver" (362 : Nat) "QuotedRiver$Water" "at" "I" "QuotedRiver") ∈ lw_tbl := lw_at lw_m2 123 rfl
theorem q457 : (Jvm.Cond.fieldLinkNest "QuotedRiver" (441 : Nat) "QuotedRiver$Water" "swelled" "I" "QuotedRiver") ∈ lw_tbl := lw_at lw_m2 125 rfl
theorem q478 : (Jvm.Cond.classLink "QuotedRiver" (72 : Nat) "QuotedRiver$Stick") ∈ lw_all := lw_g (lw_at lw_m2 146 rfl) rfl
theorem q480 : (Jvm.Cond.methodLinkNest "QuotedRiver" (74 : Nat) ({ cls := "QuotedRiver$Stick", name := "<init>", desc := "(LQuotedRiver;)V" } : Jvm.MethodName) "QuotedRiver") ∈ lw_tbl := lw_at lw_m2 148 rfl
theorem q486 : (Jvm.Cond.fieldLinkNest "QuotedRiver" (206 : Nat) "QuotedRiver$Stick" "at" "[I" "QuotedRiver") ∈ lw_tbl := lw_at lw_m2 154 rfl
theorem q489 : (Jvm.Cond.fieldLinkNest "QuotedRiver" (294 : Nat) "QuotedRiver$Stick" "left" "I" "QuotedRiver") ∈ lw_tbl := lw_at lw_m2 157 rfl
theorem q491 : (Jvm.Cond.fieldLinkNest "QuotedRiver" (300 : Nat) "QuotedRiver$Stick" "jumped" "I" "QuotedRiver") ∈ lw_tbl := lw_at lw_m2 159 rfl
theorem q493 : (Jvm.Cond.fieldLinkNest "QuotedRiver" (297 : Nat) "QuotedRiver$Stick" "waited" "I" "QuotedRiver") ∈ lw_tbl := lw_at lw_m2 161 rfl
theorem q495 : (Jvm.Cond.fieldLinkNest "QuotedRiver" (243 : Nat) "QuotedRiver$Stick" "joins" "I" "QuotedRiver") ∈ lw_tbl := lw_at lw_m2 163 rfl
theorem q497 : (Jvm.Cond.fieldLinkNest "QuotedRiver" (245 : Nat) "QuotedRiver$Stick" "back" "I" "QuotedRiver") ∈ lw_tbl := lw_at lw_m2 165 rfl
theorem q519 : (Jvm.Cond.classLink "QuotedRiver" (82 : Nat) "QuotedRiver$Seen") ∈ lw_all := lw_g (lw_at lw_m2 187 rfl) rfl
theorem q521 : (Jvm.Cond.methodLinkNest "QuotedRiver" (84 : Nat) ({ cls := "QuotedRiver$Seen", name := "<init>", desc := "(LQuotedRiver;)V" } : Jvm.MethodName) "QuotedRiver") ∈ lw_tbl := lw_at lw_m2 189 rfl
theorem q527 : (Jvm.Cond.fieldLinkNest "QuotedRiver" (343 : Nat) "QuotedRiver$Seen" "many" "I" "QuotedRiver") ∈ lw_tbl := lw_at lw_m2 195 rfl
theorem q529 : (Jvm.Cond.fieldLinkNest "QuotedRiver" (345 : Nat) "QuotedRiver$Seen" "reaches" "I" "QuotedRiver") ∈ lw_tbl := lw_at lw_m2 197 rfl
theorem q531 : (Jvm.Cond.fieldLinkNest "QuotedRiver" (347 : Nat) "QuotedRiver$Seen" "first" "I" "QuotedRiver") ∈ lw_tbl := lw_at lw_m2 199 rfl
theorem q533 : (Jvm.Cond.fieldLinkNest "QuotedRiver" (349 : Nat) "QuotedRiver$Seen" "best" "I" "QuotedRiver") ∈ lw_tbl := lw_at lw_m2 201 rfl
theorem q535 : (Jvm.Cond.fieldLinkNest "QuotedRiver" (352 : Nat) "QuotedRiver$Seen" "leaves" "I" "QuotedRiver") ∈ lw_tbl := lw_at lw_m2 203 rfl
theorem q552 : (Jvm.Cond.fieldLink "QuotedRiver" (19 : Nat) "QuotedRiver" "slots" "[LQuotedRiver$Slot;") ∈ lw_all := lw_g (lw_at lw_m2 220 rfl) rfl
theorem q554 : (Jvm.Cond.fieldLink "QuotedRiver" (47 : Nat) "QuotedRiver" "now" "LQuotedRiver$Rivers;") ∈ lw_all := lw_g (lw_at lw_m2 222 rfl) rfl
theorem q555 : (Jvm.Cond.fieldLink "QuotedRiver" (51 : Nat) "QuotedRiver" "images" "[LQuotedRiver$Rivers;") ∈ lw_all := lw_g (lw_at lw_m2 223 rfl) rfl
theorem q556 : (Jvm.Cond.fieldLink "QuotedRiver" (55 : Nat) "QuotedRiver" "tape" "[B") ∈ lw_all := lw_g (lw_at lw_m2 224 rfl) rfl
theorem q557 : (Jvm.Cond.fieldLink "QuotedRiver" (96 : Nat) "QuotedRiver" "taped" "I") ∈ lw_all := lw_g (lw_at lw_m2 225 rfl) rfl
theorem q558 : (Jvm.Cond.fieldLink "QuotedRiver" (112 : Nat) "QuotedRiver" "faultKind" "I") ∈ lw_all := lw_g (lw_at lw_m2 226 rfl) rfl
theorem q559 : (Jvm.Cond.fieldLink "QuotedRiver" (59 : Nat) "QuotedRiver" "faultPlace" "I") ∈ lw_all := lw_g (lw_at lw_m2 227 rfl) rfl
theorem q562 : (Jvm.Cond.fieldLink "QuotedRiver" (68 : Nat) "QuotedRiver" "water" "LQuotedRiver$Water;") ∈ lw_all := lw_g (lw_at lw_m2 230 rfl) rfl
theorem q564 : (Jvm.Cond.fieldLink "QuotedRiver" (75 : Nat) "QuotedRiver" "stick" "LQuotedRiver$Stick;") ∈ lw_all := lw_g (lw_at lw_m2 232 rfl) rfl
theorem q565 : (Jvm.Cond.fieldLink "QuotedRiver" (79 : Nat) "QuotedRiver" "other" "LQuotedRiver$Stick;") ∈ lw_all := lw_g (lw_at lw_m2 233 rfl) rfl
theorem q566 : (Jvm.Cond.fieldLink "QuotedRiver" (303 : Nat) "QuotedRiver" "quickAt" "I") ∈ lw_all := lw_g (lw_at lw_m2 234 rfl) rfl
theorem q567 : (Jvm.Cond.fieldLink "QuotedRiver" (85 : Nat) "QuotedRiver" "seen" "LQuotedRiver$Seen;") ∈ lw_all := lw_g (lw_at lw_m2 235 rfl) rfl
theorem q568 : (Jvm.Cond.fieldLink "QuotedRiver" (358 : Nat) "QuotedRiver" "turnFirst" "I") ∈ lw_all := lw_g (lw_at lw_m2 236 rfl) rfl
theorem q569 : (Jvm.Cond.fieldLink "QuotedRiver" (89 : Nat) "QuotedRiver" "likely" "[J") ∈ lw_all := lw_g (lw_at lw_m2 237 rfl) rfl
theorem q570 : (Jvm.Cond.fieldLink "QuotedRiver" (93 : Nat) "QuotedRiver" "next" "[J") ∈ lw_all := lw_g (lw_at lw_m2 238 rfl) rfl
theorem q571 : (Jvm.Cond.laysFinal "QuotedRiver" "QuotedRiver" "slots" "[LQuotedRiver$Slot;") ∈ lw_all := lw_g (lw_at lw_m2 239 rfl) rfl
theorem q572 : (Jvm.Cond.soleField "QuotedRiver" "slots") ∈ lw_all := lw_g (lw_at lw_m3 0 rfl) rfl
theorem q573 : (Jvm.Cond.lays "QuotedRiver" "QuotedRiver" "now" "LQuotedRiver$Rivers;") ∈ lw_all := lw_g (lw_at lw_m3 1 rfl) rfl
theorem q574 : (Jvm.Cond.soleField "QuotedRiver" "now") ∈ lw_all := lw_g (lw_at lw_m3 2 rfl) rfl
theorem q575 : (Jvm.Cond.laysFinal "QuotedRiver" "QuotedRiver" "images" "[LQuotedRiver$Rivers;") ∈ lw_all := lw_g (lw_at lw_m3 3 rfl) rfl
theorem q576 : (Jvm.Cond.soleField "QuotedRiver" "images") ∈ lw_all := lw_g (lw_at lw_m3 4 rfl) rfl
theorem q577 : (Jvm.Cond.laysFinal "QuotedRiver" "QuotedRiver" "tape" "[B") ∈ lw_all := lw_g (lw_at lw_m3 5 rfl) rfl
theorem q578 : (Jvm.Cond.soleField "QuotedRiver" "tape") ∈ lw_all := lw_g (lw_at lw_m3 6 rfl) rfl
theorem q579 : (Jvm.Cond.lays "QuotedRiver" "QuotedRiver" "taped" "I") ∈ lw_all := lw_g (lw_at lw_m3 7 rfl) rfl
theorem q580 : (Jvm.Cond.soleField "QuotedRiver" "taped") ∈ lw_all := lw_g (lw_at lw_m3 8 rfl) rfl
theorem q581 : (Jvm.Cond.lays "QuotedRiver" "QuotedRiver" "faultKind" "I") ∈ lw_all := lw_g (lw_at lw_m3 9 rfl) rfl
theorem q582 : (Jvm.Cond.soleField "QuotedRiver" "faultKind") ∈ lw_all := lw_g (lw_at lw_m3 10 rfl) rfl
theorem q583 : (Jvm.Cond.lays "QuotedRiver" "QuotedRiver" "faultPlace" "I") ∈ lw_all := lw_g (lw_at lw_m3 11 rfl) rfl
theorem q584 : (Jvm.Cond.soleField "QuotedRiver" "faultPlace") ∈ lw_all := lw_g (lw_at lw_m3 12 rfl) rfl
theorem q585 : (Jvm.Cond.laysFinal "QuotedRiver" "QuotedRiver" "water" "LQuotedRiver$Water;") ∈ lw_all := lw_g (lw_at lw_m3 13 rfl) rfl
theorem q586 : (Jvm.Cond.soleField "QuotedRiver" "water") ∈ lw_all := lw_g (lw_at lw_m3 14 rfl) rfl
theorem q587 : (Jvm.Cond.laysFinal "QuotedRiver" "QuotedRiver" "stick" "LQuotedRiver$Stick;") ∈ lw_all := lw_g (lw_at lw_m3 15 rfl) rfl
theorem q588 : (Jvm.Cond.soleField "QuotedRiver" "stick") ∈ lw_all := lw_g (lw_at lw_m3 16 rfl) rfl
theorem q589 : (Jvm.Cond.laysFinal "QuotedRiver" "QuotedRiver" "other" "LQuotedRiver$Stick;") ∈ lw_all := lw_g (lw_at lw_m3 17 rfl) rfl
theorem q590 : (Jvm.Cond.soleField "QuotedRiver" "other") ∈ lw_all := lw_g (lw_at lw_m3 18 rfl) rfl
theorem q591 : (Jvm.Cond.lays "QuotedRiver" "QuotedRiver" "quickAt" "I") ∈ lw_all := lw_g (lw_at lw_m3 19 rfl) rfl
theorem q592 : (Jvm.Cond.soleField "QuotedRiver" "quickAt") ∈ lw_all := lw_g (lw_at lw_m3 20 rfl) rfl
theorem q593 : (Jvm.Cond.laysFinal "QuotedRiver" "QuotedRiver" "seen" "LQuotedRiver$Seen;") ∈ lw_all := lw_g (lw_at lw_m3 21 rfl) rfl
theorem q594 : (Jvm.Cond.soleField "QuotedRiver" "seen") ∈ lw_all := lw_g (lw_at lw_m3 22 rfl) rfl
theorem q595 : (Jvm.Cond.lays "QuotedRiver" "QuotedRiver" "turnFirst" "I") ∈ lw_all := lw_g (lw_at lw_m3 23 rfl) rfl
theorem q596 : (Jvm.Cond.soleField "QuotedRiver" "turnFirst") ∈ lw_all := lw_g (lw_at lw_m3 24 rfl) rfl
theorem q597 : (Jvm.Cond.laysFinal "QuotedRiver" "QuotedRiver" "likely" "[J") ∈ lw_all := lw_g (lw_at lw_m3 25 rfl) rfl
theorem q598 : (Jvm.Cond.soleField "QuotedRiver" "likely") ∈ lw_all := lw_g (lw_at lw_m3 26 rfl) rfl
theorem q599 : (Jvm.Cond.laysFinal "QuotedRiver" "QuotedRiver" "next" "[J") ∈ lw_all := lw_g (lw_at lw_m3 27 rfl) rfl
theorem q600 : (Jvm.Cond.soleField "QuotedRiver" "next") ∈ lw_all := lw_g (lw_at lw_m3 28 rfl) rfl
theorem q601 : (Jvm.Cond.superclass "QuotedRiver" "java/lang/Object") ∈ lw_all := lw_g (lw_at lw_m3 29 rfl) rfl
theorem q603 : (Jvm.Cond.instanceMethod ({ cls := "QuotedRiver", name := "feed", desc := "(IIIII)I" } : Jvm.MethodName)) ∈ lw_all := lw_g (lw_at lw_m3 31 rfl) rfl
theorem q604 : (Jvm.Cond.selects "QuotedRiver" ({ cls := "QuotedRiver", name := "feed", desc := "(IIIII)I" } : Jvm.MethodName) ({ cls := "QuotedRiver", name := "feed", desc := "(IIIII)I" } : Jvm.MethodName)) ∈ lw_all := lw_g (lw_at lw_m3 32 rfl) rfl
theorem q605 : (Jvm.Cond.code ({ cls := "QuotedRiver", name := "feed", desc := "(IIIII)I" } : Jvm.MethodName) prog_1_method_9_code (8 : Nat) (Option.some Jvm.ClassFile.FieldType.int)) ∈ lw_all := lw_g (lw_at lw_m3 33 rfl) rfl
theorem q607 : (Jvm.Cond.instanceMethod ({ cls := "QuotedRiver", name := "end", desc := "(I)I" } : Jvm.MethodName)) ∈ lw_all := lw_g (lw_at lw_m3 35 rfl) rfl
theorem q608 : (Jvm.Cond.selects "QuotedRiver" ({ cls := "QuotedRiver", name := "end", desc := "(I)I" } : Jvm.MethodName) ({ cls := "QuotedRiver", name := "end", desc := "(I)I" } : Jvm.MethodName)) ∈ lw_all := lw_g (lw_at lw_m3 36 rfl) rfl
theorem q609 : (Jvm.Cond.code ({ cls := "QuotedRiver", name := "end", desc := "(I)I" } : Jvm.MethodName) prog_1_method_10_code (2 : Nat) (Option.some Jvm.ClassFile.FieldType.int)) ∈ lw_all := lw_g (lw_at lw_m3 37 rfl) rfl
theorem q611 : (Jvm.Cond.instanceMethod ({ cls := "QuotedRiver", name := "rivers", desc := "()I" } : Jvm.MethodName)) ∈ lw_all := lw_g (lw_at lw_m3 39 rfl) rfl
theorem q612 : (Jvm.Cond.selects "QuotedRiver" ({ cls := "QuotedRiver", name := "rivers", desc := "()I" } : Jvm.MethodName) ({ cls := "QuotedRiver", name := "rivers", desc := "()I" } : Jvm.MethodName)) ∈ lw_all := lw_g (lw_at lw_m3 40 rfl) rfl
theorem q613 : (Jvm.Cond.codeWith ({ cls := "QuotedRiver", name := "rivers", desc := "()I" } : Jvm.MethodName) prog_1_method_11_code (4 : Nat) (Option.some Jvm.ClassFile.FieldType.int) [((0 : Nat), (59 : Nat), (66 : Nat), (118 : Nat)), ((0 : Nat), (59 : Nat), (93 : Nat), (0 : Nat)), ((66 : Nat), (86 : Nat), (93 : Nat), (0 : Nat))]) ∈ lw_all := lw_g (lw_at lw_m3 41 rfl) rfl
theorem q614 : (Jvm.Cond.classLink "QuotedRiver" (118 : Nat) "QuotedRiver$Fault") ∈ lw_all := lw_g (lw_at lw_m3 42 rfl) rfl
theorem q615 : (Jvm.Cond.classLink "QuotedRiver" (99 : Nat) "QuotedRiver$Reader") ∈ lw_all := lw_g (lw_at lw_m3 43 rfl) rfl
theorem q617 : (Jvm.Cond.methodLink "QuotedRiver" (101 : Nat) ({ cls := "QuotedRiver$Reader", name := "<init>", desc := "([BI)V" } : Jvm.MethodName)) ∈ lw_all := lw_g (lw_at lw_m3 45 rfl) rfl
theorem q658 : (Jvm.Cond.methodLink "QuotedRiver" (104 : Nat) ({ cls := "QuotedRiver$Reader", name := "reads", desc := "()LQuotedRiver$Rivers;" } : Jvm.MethodName)) ∈ lw_all := lw_g (lw_at lw_m3 86 rfl) rfl
theorem q753 : (Jvm.Cond.fieldLinkNest "QuotedRiver" (120 : Nat) "QuotedRiver$Fault" "kind" "I" "QuotedRiver") ∈ lw_tbl := lw_at lw_m3 181 rfl
theorem q755 : (Jvm.Cond.fieldLinkNest "QuotedRiver" (123 : Nat) "QuotedRiver$Fault" "place" "I" "QuotedRiver") ∈ lw_tbl := lw_at lw_m3 183 rfl
theorem q805 : (Jvm.Cond.fieldLinkNest "QuotedRiver" (164 : Nat) "QuotedRiver$Reach" "to" "I" "QuotedRiver") ∈ lw_tbl := lw_at lw_m3 233 rfl
theorem q809 : (Jvm.Cond.fieldLinkNest "QuotedRiver" (167 : Nat) "QuotedRiver$Reach" "takes" "I" "QuotedRiver") ∈ lw_tbl := lw_at lw_m3 237 rfl
theorem q813 : (Jvm.Cond.fieldLinkNest "QuotedRiver" (170 : Nat) "QuotedRiver$Reach" "low" "I" "QuotedRiver") ∈ lw_tbl := lw_at lw_m4 1 rfl
theorem q862 : (Jvm.Cond.selects "QuotedRiver" ({ cls := "java/lang/Object", name := "getClass", desc := "()Ljava/lang/Class;" } : Jvm.MethodName) ({ cls := "java/lang/Object", name := "getClass", desc := "()Ljava/lang/Class;" } : Jvm.MethodName)) ∈ lw_all := lw_g (lw_at lw_m4 50 rfl) rfl
theorem q903 : (Jvm.Cond.fieldLinkNest "QuotedRiver" (180 : Nat) "QuotedRiver$Join" "from" "I" "QuotedRiver") ∈ lw_tbl := lw_at lw_m4 91 rfl
theorem q906 : (Jvm.Cond.fieldLinkNest "QuotedRiver" (183 : Nat) "QuotedRiver$Join" "to" "I" "QuotedRiver") ∈ lw_tbl := lw_at lw_m4 94 rfl
theorem q909 : (Jvm.Cond.fieldLinkNest "QuotedRiver" (184 : Nat) "QuotedRiver$Join" "each" "I" "QuotedRiver") ∈ lw_tbl := lw_at lw_m4 97 rfl
theorem q912 : (Jvm.Cond.fieldLinkNest "QuotedRiver" (187 : Nat) "QuotedRiver$Join" "at" "I" "QuotedRiver") ∈ lw_tbl := lw_at lw_m4 100 rfl
theorem q937 : (Jvm.Cond.fieldLinkNest "QuotedRiver" (288 : Nat) "QuotedRiver$Rain" "n" "I" "QuotedRiver") ∈ lw_tbl := lw_at lw_m4 125 rfl
theorem q940 : (Jvm.Cond.fieldLinkNest "QuotedRiver" (291 : Nat) "QuotedRiver$Rain" "step" "I" "QuotedRiver") ∈ lw_tbl := lw_at lw_m4 128 rfl
theorem q997 : (Jvm.Cond.methodLink "QuotedRiver" (108 : Nat) ({ cls := "QuotedRiver$Rivers", name := "is", desc := "()Z" } : Jvm.MethodName)) ∈ lw_all := lw_g (lw_at lw_m4 185 rfl) rfl
theorem q1002 : (Jvm.Cond.instanceMethod ({ cls := "QuotedRiver", name := "fault", desc := "(I)I" } : Jvm.MethodName)) ∈ lw_all := lw_g (lw_at lw_m4 190 rfl) rfl
theorem q1003 : (Jvm.Cond.selects "QuotedRiver" ({ cls := "QuotedRiver", name := "fault", desc := "(I)I" } : Jvm.MethodName) ({ cls := "QuotedRiver", name := "fault", desc := "(I)I" } : Jvm.MethodName)) ∈ lw_all := lw_g (lw_at lw_m4 191 rfl) rfl
theorem q1004 : (Jvm.Cond.code ({ cls := "QuotedRiver", name := "fault", desc := "(I)I" } : Jvm.MethodName) prog_1_method_12_code (2 : Nat) (Option.some Jvm.ClassFile.FieldType.int)) ∈ lw_all := lw_g (lw_at lw_m4 192 rfl) rfl
theorem q1006 : (Jvm.Cond.instanceMethod ({ cls := "QuotedRiver", name := "reach", desc := "(II)I" } : Jvm.MethodName)) ∈ lw_all := lw_g (lw_at lw_m4 194 rfl) rfl
theorem q1007 : (Jvm.Cond.selects "QuotedRiver" ({ cls := "QuotedRiver", name := "reach", desc := "(II)I" } : Jvm.MethodName) ({ cls := "QuotedRiver", name := "reach", desc := "(II)I" } : Jvm.MethodName)) ∈ lw_all := lw_g (lw_at lw_m4 195 rfl) rfl
theorem q1008 : (Jvm.Cond.code ({ cls := "QuotedRiver", name := "reach", desc := "(II)I" } : Jvm.MethodName) prog_1_method_22_code (3 : Nat) (Option.some Jvm.ClassFile.FieldType.int)) ∈ lw_all := lw_g (lw_at lw_m4 196 rfl) rfl
theorem q1009 : (Jvm.Cond.methodLink "QuotedRiver" (151 : Nat) ({ cls := "QuotedRiver", name := "isReach", desc := "(J)Z" } : Jvm.MethodName)) ∈ lw_all := lw_g (lw_at lw_m4 197 rfl) rfl
theorem q1010 : (Jvm.Cond.privateMethod ({ cls := "QuotedRiver", name := "isReach", desc := "(J)Z" } : Jvm.MethodName)) ∈ lw_tbl := lw_at lw_m4 198 rfl
theorem q1011 : (Jvm.Cond.instanceMethod ({ cls := "QuotedRiver", name := "isReach", desc := "(J)Z" } : Jvm.MethodName)) ∈ lw_all := lw_g (lw_at lw_m4 199 rfl) rfl
theorem q1012 : (Jvm.Cond.code ({ cls := "QuotedRiver", name := "isReach", desc := "(J)Z" } : Jvm.MethodName) prog_1_method_16_code (3 : Nat) (Option.some Jvm.ClassFile.FieldType.boolean)) ∈ lw_all := lw_g (lw_at lw_m4 200 rfl) rfl
theorem q1013 : (Jvm.Cond.methodLink "QuotedRiver" (147 : Nat) ({ cls := "QuotedRiver", name := "reaches", desc := "()I" } : Jvm.MethodName)) ∈ lw_all := lw_g (lw_at lw_m4 201 rfl) rfl
theorem q1014 : (Jvm.Cond.privateMethod ({ cls := "QuotedRiver", name := "reaches", desc := "()I" } : Jvm.MethodName)) ∈ lw_tbl := lw_at lw_m4 202 rfl
theorem q1015 : (Jvm.Cond.instanceMethod ({ cls := "QuotedRiver", name := "reaches", desc := "()I" } : Jvm.MethodName)) ∈ lw_all := lw_g (lw_at lw_m4 203 rfl) rfl
theorem q1016 : (Jvm.Cond.code ({ cls := "QuotedRiver", name := "reaches", desc := "()I" } : Jvm.MethodName) prog_1_method_13_code (1 : Nat) (Option.some Jvm.ClassFile.FieldType.int)) ∈ lw_all := lw_g (lw_at lw_m4 204 rfl) rfl
theorem q1017 : (Jvm.Cond.interfaceEntry "QuotedRiver" (130 : Nat)) ∈ lw_tbl := lw_at lw_m4 205 rfl
theorem q1018 : (Jvm.Cond.methodLink "QuotedRiver" (130 : Nat) ({ cls := "java/util/List", name := "size", desc := "()I" } : Jvm.MethodName)) ∈ lw_all := lw_g (lw_at lw_m4 206 rfl) rfl
theorem q1019 : (Jvm.Cond.constantLong "QuotedRiver" (158 : Nat) (2 : Int64)) ∈ lw_all := lw_g (lw_at lw_m4 207 rfl) rfl
theorem q1020 : (Jvm.Cond.methodLink "QuotedRiver" (160 : Nat) ({ cls := "QuotedRiver", name := "one", desc := "(I)LQuotedRiver$Reach;" } : Jvm.MethodName)) ∈ lw_all := lw_g (lw_at lw_m4 208 rfl) rfl
theorem q1021 : (Jvm.Cond.privateMethod ({ cls := "QuotedRiver", name := "one", desc := "(I)LQuotedRiver$Reach;" } : Jvm.MethodName)) ∈ lw_tbl := lw_at lw_m4 209 rfl
theorem q1022 : (Jvm.Cond.instanceMethod ({ cls := "QuotedRiver", name := "one", desc := "(I)LQuotedRiver$Reach;" } : Jvm.MethodName)) ∈ lw_all := lw_g (lw_at lw_m4 210 rfl) rfl
theorem q1023 : (Jvm.Cond.code ({ cls := "QuotedRiver", name := "one", desc := "(I)LQuotedRiver$Reach;" } : Jvm.MethodName) prog_1_method_14_code (2 : Nat) (Option.some (Jvm.ClassFile.FieldType.object "QuotedRiver$Reach"))) ∈ lw_all := lw_g (lw_at lw_m4 211 rfl) rfl
theorem q1024 : (Jvm.Cond.interfaceEntry "QuotedRiver" (136 : Nat)) ∈ lw_tbl := lw_at lw_m4 212 rfl
theorem q1025 : (Jvm.Cond.methodLink "QuotedRiver" (136 : Nat) ({ cls := "java/util/List", name := "get", desc := "(I)Ljava/lang/Object;" } : Jvm.MethodName)) ∈ lw_all := lw_g (lw_at lw_m4 213 rfl) rfl
theorem q1041 : (Jvm.Cond.classLink "QuotedRiver" (140 : Nat) "QuotedRiver$Reach") ∈ lw_all := lw_g (lw_at lw_m4 229 rfl) rfl
theorem q1043 : (Jvm.Cond.instanceMethod ({ cls := "QuotedRiver", name := "join", desc := "(II)I" } : Jvm.MethodName)) ∈ lw_all := lw_g (lw_at lw_m4 231 rfl) rfl
theorem q1044 : (Jvm.Cond.selects "QuotedRiver" ({ cls := "QuotedRiver", name := "join", desc := "(II)I" } : Jvm.MethodName) ({ cls := "QuotedRiver", name := "join", desc := "(II)I" } : Jvm.MethodName)) ∈ lw_all := lw_g (lw_at lw_m4 232 rfl) rfl
theorem q1045 : (Jvm.Cond.code ({ cls := "QuotedRiver", name := "join", desc := "(II)I" } : Jvm.MethodName) prog_1_method_23_code (4 : Nat) (Option.some Jvm.ClassFile.FieldType.int)) ∈ lw_all := lw_g (lw_at lw_m4 233 rfl) rfl
theorem q1046 : (Jvm.Cond.methodLink "QuotedRiver" (173 : Nat) ({ cls := "QuotedRiver", name := "isJoin", desc := "(I)Z" } : Jvm.MethodName)) ∈ lw_all := lw_g (lw_at lw_m4 234 rfl) rfl
theorem q1047 : (Jvm.Cond.privateMethod ({ cls := "QuotedRiver", name := "isJoin", desc := "(I)Z" } : Jvm.MethodName)) ∈ lw_tbl := lw_at lw_m4 235 rfl
theorem q1048 : (Jvm.Cond.instanceMethod ({ cls := "QuotedRiver", name := "isJoin", desc := "(I)Z" } : Jvm.MethodName)) ∈ lw_all := lw_g (lw_at lw_m4 236 rfl) rfl
theorem q1049 : (Jvm.Cond.code ({ cls := "QuotedRiver", name := "isJoin", desc := "(I)Z" } : Jvm.MethodName) prog_1_method_17_code (2 : Nat) (Option.some Jvm.ClassFile.FieldType.boolean)) ∈ lw_all := lw_g (lw_at lw_m4 237 rfl) rfl
theorem q1050 : (Jvm.Cond.methodLink "QuotedRiver" (176 : Nat) ({ cls := "QuotedRiver", name := "joinOf", desc := "(I)LQuotedRiver$Join;" } : Jvm.MethodName)) ∈ lw_all := lw_g (lw_at lw_m4 238 rfl) rfl
theorem q1051 : (Jvm.Cond.privateMethod ({ cls := "QuotedRiver", name := "joinOf", desc := "(I)LQuotedRiver$Join;" } : Jvm.MethodName)) ∈ lw_tbl := lw_at lw_m4 239 rfl
theorem q1052 : (Jvm.Cond.instanceMethod ({ cls := "QuotedRiver", name := "joinOf", desc := "(I)LQuotedRiver$Join;" } : Jvm.MethodName)) ∈ lw_all := lw_g (lw_at lw_m5 0 rfl) rfl
theorem q1053 : (Jvm.Cond.code ({ cls := "QuotedRiver", name := "joinOf", desc := "(I)LQuotedRiver$Join;" } : Jvm.MethodName) prog_1_method_15_code (2 : Nat) (Option.some (Jvm.ClassFile.FieldType.object "QuotedRiver$Join"))) ∈ lw_all := lw_g (lw_at lw_m5 1 rfl) rfl
theorem q1054 : (Jvm.Cond.classLink "QuotedRiver" (145 : Nat) "QuotedRiver$Join") ∈ lw_all := lw_g (lw_at lw_m5 2 rfl) rfl
theorem q1056 : (Jvm.Cond.instanceMethod ({ cls := "QuotedRiver", name := "idle", desc := "(I)I" } : Jvm.MethodName)) ∈ lw_all := lw_g (lw_at lw_m5 4 rfl) rfl
theorem q1057 : (Jvm.Cond.selects "QuotedRiver" ({ cls := "QuotedRiver", name := "idle", desc := "(I)I" } : Jvm.MethodName) ({ cls := "QuotedRiver", name := "idle", desc := "(I)I" } : Jvm.MethodName)) ∈ lw_all := lw_g (lw_at lw_m5 5 rfl) rfl
theorem q1058 : (Jvm.Cond.code ({ cls := "QuotedRiver", name := "idle", desc := "(I)I" } : Jvm.MethodName) prog_1_method_25_code (4 : Nat) (Option.some Jvm.ClassFile.FieldType.int)) ∈ lw_all := lw_g (lw_at lw_m5 6 rfl) rfl
theorem q1059 : (Jvm.Cond.methodLink "QuotedRiver" (190 : Nat) ({ cls := "QuotedRiver$Water", name := "is", desc := "()LQuotedRiver$Water;" } : Jvm.MethodName)) ∈ lw_all := lw_g (lw_at lw_m5 7 rfl) rfl
theorem q1081 : (Jvm.Cond.methodLink "QuotedRiver" (197 : Nat) ({ cls := "QuotedRiver$Water", name := "isStanding", desc := "(II)Z" } : Jvm.MethodName)) ∈ lw_all := lw_g (lw_at lw_m5 29 rfl) rfl
theorem q1087 : (Jvm.Cond.instanceMethod ({ cls := "QuotedRiver", name := "alike", desc := "(II)I" } : Jvm.MethodName)) ∈ lw_all := lw_g (lw_at lw_m5 35 rfl) rfl
theorem q1088 : (Jvm.Cond.selects "QuotedRiver" ({ cls := "QuotedRiver", name := "alike", desc := "(II)I" } : Jvm.MethodName) ({ cls := "QuotedRiver", name := "alike", desc := "(II)I" } : Jvm.MethodName)) ∈ lw_all := lw_g (lw_at lw_m5 36 rfl) rfl
theorem q1089 : (Jvm.Cond.code ({ cls := "QuotedRiver", name := "alike", desc := "(II)I" } : Jvm.MethodName) prog_1_method_26_code (5 : Nat) (Option.some Jvm.ClassFile.FieldType.int)) ∈ lw_all := lw_g (lw_at lw_m5 37 rfl) rfl
theorem q1090 : (Jvm.Cond.methodLink "QuotedRiver" (200 : Nat) ({ cls := "QuotedRiver", name := "areReaches", desc := "(II)Z" } : Jvm.MethodName)) ∈ lw_all := lw_g (lw_at lw_m5 38 rfl) rfl
theorem q1091 : (Jvm.Cond.privateMethod ({ cls := "QuotedRiver", name := "areReaches", desc := "(II)Z" } : Jvm.MethodName)) ∈ lw_tbl := lw_at lw_m5 39 rfl
theorem q1092 : (Jvm.Cond.instanceMethod ({ cls := "QuotedRiver", name := "areReaches", desc := "(II)Z" } : Jvm.MethodName)) ∈ lw_all := lw_g (lw_at lw_m5 40 rfl) rfl
theorem q1093 : (Jvm.Cond.code ({ cls := "QuotedRiver", name := "areReaches", desc := "(II)Z" } : Jvm.MethodName) prog_1_method_20_code (3 : Nat) (Option.some Jvm.ClassFile.FieldType.boolean)) ∈ lw_all := lw_g (lw_at lw_m5 41 rfl) rfl
theorem q1094 : (Jvm.Cond.methodLink "QuotedRiver" (203 : Nat) ({ cls := "QuotedRiver", name := "put", desc := "(II)LQuotedRiver$Stick;" } : Jvm.MethodName)) ∈ lw_all := lw_g (lw_at lw_m5 42 rfl) rfl
theorem q1095 : (Jvm.Cond.privateMethod ({ cls := "QuotedRiver", name := "put", desc := "(II)LQuotedRiver$Stick;" } : Jvm.MethodName)) ∈ lw_tbl := lw_at lw_m5 43 rfl
theorem q1096 : (Jvm.Cond.instanceMethod ({ cls := "QuotedRiver", name := "put", desc := "(II)LQuotedRiver$Stick;" } : Jvm.MethodName)) ∈ lw_all := lw_g (lw_at lw_m5 44 rfl) rfl
theorem q1097 : (Jvm.Cond.code ({ cls := "QuotedRiver", name := "put", desc := "(II)LQuotedRiver$Stick;" } : Jvm.MethodName) prog_1_method_24_code (3 : Nat) (Option.some (Jvm.ClassFile.FieldType.object "QuotedRiver$Stick"))) ∈ lw_all := lw_g (lw_at lw_m5 45 rfl) rfl
theorem q1098 : (Jvm.Cond.methodLink "QuotedRiver" (193 : Nat) ({ cls := "QuotedRiver$Stick", name := "goes", desc := "(II)LQuotedRiver$Stick;" } : Jvm.MethodName)) ∈ lw_all := lw_g (lw_at lw_m5 46 rfl) rfl
theorem q1104 : (Jvm.Cond.static ({ cls := "QuotedRiver", name := "isOn", desc := "(II)Z" } : Jvm.MethodName)) ∈ lw_all := lw_g (lw_at lw_m5 52 rfl) rfl
theorem q1105 : (Jvm.Cond.code ({ cls := "QuotedRiver", name := "isOn", desc := "(II)Z" } : Jvm.MethodName) prog_1_method_2_code (2 : Nat) (Option.some Jvm.ClassFile.FieldType.boolean)) ∈ lw_all := lw_g (lw_at lw_m5 53 rfl) rfl
theorem q1120 : (Jvm.Cond.instanceMethod ({ cls := "QuotedRiver", name := "busy", desc := "(I)I" } : Jvm.MethodName)) ∈ lw_all := lw_g (lw_at lw_m5 68 rfl) rfl
theorem q1121 : (Jvm.Cond.selects "QuotedRiver" ({ cls := "QuotedRiver", name := "busy", desc := "(I)I" } : Jvm.MethodName) ({ cls := "QuotedRiver", name := "busy", desc := "(I)I" } : Jvm.MethodName)) ∈ lw_all := lw_g (lw_at lw_m5 69 rfl) rfl
theorem q1122 : (Jvm.Cond.code ({ cls := "QuotedRiver", name := "busy", desc := "(I)I" } : Jvm.MethodName) prog_1_method_27_code (6 : Nat) (Option.some Jvm.ClassFile.FieldType.int)) ∈ lw_all := lw_g (lw_at lw_m5 70 rfl) rfl
theorem q1123 : (Jvm.Cond.methodLink "QuotedRiver" (155 : Nat) ({ cls := "QuotedRiver", name := "isStep", desc := "(J)Z" } : Jvm.MethodName)) ∈ lw_all := lw_g (lw_at lw_m5 71 rfl) rfl
theorem q1124 : (Jvm.Cond.privateMethod ({ cls := "QuotedRiver", name := "isStep", desc := "(J)Z" } : Jvm.MethodName)) ∈ lw_tbl := lw_at lw_m5 72 rfl
theorem q1125 : (Jvm.Cond.instanceMethod ({ cls := "QuotedRiver", name := "isStep", desc := "(J)Z" } : Jvm.MethodName)) ∈ lw_all := lw_g (lw_at lw_m5 73 rfl) rfl
theorem q1126 : (Jvm.Cond.code ({ cls := "QuotedRiver", name := "isStep", desc := "(J)Z" } : Jvm.MethodName) prog_1_method_18_code (3 : Nat) (Option.some Jvm.ClassFile.FieldType.boolean)) ∈ lw_all := lw_g (lw_at lw_m5 74 rfl) rfl
theorem q1127 : (Jvm.Cond.constantLong "QuotedRiver" (149 : Nat) (60 : Int64)) ∈ lw_all := lw_g (lw_at lw_m5 75 rfl) rfl
theorem q1128 : (Jvm.Cond.methodLink "QuotedRiver" (209 : Nat) ({ cls := "QuotedRiver", name := "from", desc := "(II)I" } : Jvm.MethodName)) ∈ lw_all := lw_g (lw_at lw_m5 76 rfl) rfl
theorem q1129 : (Jvm.Cond.instanceMethod ({ cls := "QuotedRiver", name := "from", desc := "(II)I" } : Jvm.MethodName)) ∈ lw_all := lw_g (lw_at lw_m5 77 rfl) rfl
theorem q1130 : (Jvm.Cond.selects "QuotedRiver" ({ cls := "QuotedRiver", name := "from", desc := "(II)I" } : Jvm.MethodName) ({ cls := "QuotedRiver", name := "from", desc := "(II)I" } : Jvm.MethodName)) ∈ lw_all := lw_g (lw_at lw_m5 78 rfl) rfl
theorem q1131 : (Jvm.Cond.code ({ cls := "QuotedRiver", name := "from", desc := "(II)I" } : Jvm.MethodName) prog_1_method_58_code (5 : Nat) (Option.some Jvm.ClassFile.FieldType.int)) ∈ lw_all := lw_g (lw_at lw_m5 79 rfl) rfl
theorem q1132 : (Jvm.Cond.methodLink "QuotedRiver" (240 : Nat) ({ cls := "QuotedRiver", name := "isStick", desc := "(II)Z" } : Jvm.MethodName)) ∈ lw_all := lw_g (lw_at lw_m5 80 rfl) rfl
theorem q1133 : (Jvm.Cond.privateMethod ({ cls := "QuotedRiver", name := "isStick", desc := "(II)Z" } : Jvm.MethodName)) ∈ lw_tbl := lw_at lw_m5 81 rfl
theorem q1134 : (Jvm.Cond.instanceMethod ({ cls := "QuotedRiver", name := "isStick", desc := "(II)Z" } : Jvm.MethodName)) ∈ lw_all := lw_g (lw_at lw_m5 82 rfl) rfl
theorem q1135 : (Jvm.Cond.code ({ cls := "QuotedRiver", name := "isStick", desc := "(II)Z" } : Jvm.MethodName) prog_1_method_21_code (3 : Nat) (Option.some Jvm.ClassFile.FieldType.boolean)) ∈ lw_all := lw_g (lw_at lw_m5 83 rfl) rfl
theorem q1136 : (Jvm.Cond.methodLink "QuotedRiver" (212 : Nat) ({ cls := "QuotedRiver", name := "size", desc := "(I)I" } : Jvm.MethodName)) ∈ lw_all := lw_g (lw_at lw_m5 84 rfl) rfl
theorem q1137 : (Jvm.Cond.static ({ cls := "QuotedRiver", name := "size", desc := "(I)I" } : Jvm.MethodName)) ∈ lw_all := lw_g (lw_at lw_m5 85 rfl) rfl
theorem q1138 : (Jvm.Cond.code ({ cls := "QuotedRiver", name := "size", desc := "(I)I" } : Jvm.MethodName) prog_1_method_3_code (1 : Nat) (Option.some Jvm.ClassFile.FieldType.int)) ∈ lw_all := lw_g (lw_at lw_m5 86 rfl) rfl
theorem q1139 : (Jvm.Cond.methodLink "QuotedRiver" (1 : Nat) ({ cls := "java/lang/Integer", name := "bitCount", desc := "(I)I" } : Jvm.MethodName)) ∈ lw_all := lw_g (lw_at lw_m5 87 rfl) rfl
theorem q1146 : (Jvm.Cond.instanceMethod ({ cls := "QuotedRiver", name := "flows", desc := "(I)I" } : Jvm.MethodName)) ∈ lw_all := lw_g (lw_at lw_m5 94 rfl) rfl
theorem q1147 : (Jvm.Cond.selects "QuotedRiver" ({ cls := "QuotedRiver", name := "flows", desc := "(I)I" } : Jvm.MethodName) ({ cls := "QuotedRiver", name := "flows", desc := "(I)I" } : Jvm.MethodName)) ∈ lw_all := lw_g (lw_at lw_m5 95 rfl) rfl
theorem q1148 : (Jvm.Cond.code ({ cls := "QuotedRiver", name := "flows", desc := "(I)I" } : Jvm.MethodName) prog_1_method_28_code (3 : Nat) (Option.some Jvm.ClassFile.FieldType.int)) ∈ lw_all := lw_g (lw_at lw_m5 96 rfl) rfl
theorem q1149 : (Jvm.Cond.methodLink "QuotedRiver" (214 : Nat) ({ cls := "QuotedRiver", name := "stands", desc := "(I)I" } : Jvm.MethodName)) ∈ lw_all := lw_g (lw_at lw_m5 97 rfl) rfl
theorem q1150 : (Jvm.Cond.instanceMethod ({ cls := "QuotedRiver", name := "stands", desc := "(I)I" } : Jvm.MethodName)) ∈ lw_all := lw_g (lw_at lw_m5 98 rfl) rfl
theorem q1151 : (Jvm.Cond.selects "QuotedRiver" ({ cls := "QuotedRiver", name := "stands", desc := "(I)I" } : Jvm.MethodName) ({ cls := "QuotedRiver", name := "stands", desc := "(I)I" } : Jvm.MethodName)) ∈ lw_all := lw_g (lw_at lw_m5 99 rfl) rfl
theorem q1152 : (Jvm.Cond.code ({ cls := "QuotedRiver", name := "stands", desc := "(I)I" } : Jvm.MethodName) prog_1_method_47_code (4 : Nat) (Option.some Jvm.ClassFile.FieldType.int)) ∈ lw_all := lw_g (lw_at lw_m5 100 rfl) rfl
theorem q1154 : (Jvm.Cond.instanceMethod ({ cls := "QuotedRiver", name := "mouths", desc := "()I" } : Jvm.MethodName)) ∈ lw_all := lw_g (lw_at lw_m5 102 rfl) rfl
theorem q1155 : (Jvm.Cond.selects "QuotedRiver" ({ cls := "QuotedRiver", name := "mouths", desc := "()I" } : Jvm.MethodName) ({ cls := "QuotedRiver", name := "mouths", desc := "()I" } : Jvm.MethodName)) ∈ lw_all := lw_g (lw_at lw_m5 103 rfl) rfl
theorem q1156 : (Jvm.Cond.code ({ cls := "QuotedRiver", name := "mouths", desc := "()I" } : Jvm.MethodName) prog_1_method_29_code (3 : Nat) (Option.some Jvm.ClassFile.FieldType.int)) ∈ lw_all := lw_g (lw_at lw_m5 104 rfl) rfl
theorem q1158 : (Jvm.Cond.instanceMethod ({ cls := "QuotedRiver", name := "springs", desc := "()I" } : Jvm.MethodName)) ∈ lw_all := lw_g (lw_at lw_m5 106 rfl) rfl
theorem q1159 : (Jvm.Cond.selects "QuotedRiver" ({ cls := "QuotedRiver", name := "springs", desc := "()I" } : Jvm.MethodName) ({ cls := "QuotedRiver", name := "springs", desc := "()I" } : Jvm.MethodName)) ∈ lw_all := lw_g (lw_at lw_m5 107 rfl) rfl
theorem q1160 : (Jvm.Cond.code ({ cls := "QuotedRiver", name := "springs", desc := "()I" } : Jvm.MethodName) prog_1_method_30_code (3 : Nat) (Option.some Jvm.ClassFile.FieldType.int)) ∈ lw_all := lw_g (lw_at lw_m5 108 rfl) rfl
theorem q1162 : (Jvm.Cond.instanceMethod ({ cls := "QuotedRiver", name := "depth", desc := "(I)I" } : Jvm.MethodName)) ∈ lw_all := lw_g (lw_at lw_m5 110 rfl) rfl
theorem q1163 : (Jvm.Cond.selects "QuotedRiver" ({ cls := "QuotedRiver", name := "depth", desc := "(I)I" } : Jvm.MethodName) ({ cls := "QuotedRiver", name := "depth", desc := "(I)I" } : Jvm.MethodName)) ∈ lw_all := lw_g (lw_at lw_m5 111 rfl) rfl
theorem q1164 : (Jvm.Cond.code ({ cls := "QuotedRiver", name := "depth", desc := "(I)I" } : Jvm.MethodName) prog_1_method_32_code (2 : Nat) (Option.some Jvm.ClassFile.FieldType.int)) ∈ lw_all := lw_g (lw_at lw_m5 112 rfl) rfl
theorem q1165 : (Jvm.Cond.methodLink "QuotedRiver" (217 : Nat) ({ cls := "QuotedRiver", name := "depthOf", desc := "(I)I" } : Jvm.MethodName)) ∈ lw_all := lw_g (lw_at lw_m5 113 rfl) rfl
theorem q1166 : (Jvm.Cond.privateMethod ({ cls := "QuotedRiver", name := "depthOf", desc := "(I)I" } : Jvm.MethodName)) ∈ lw_tbl := lw_at lw_m5 114 rfl
theorem q1167 : (Jvm.Cond.instanceMethod ({ cls := "QuotedRiver", name := "depthOf", desc := "(I)I" } : Jvm.MethodName)) ∈ lw_all := lw_g (lw_at lw_m5 115 rfl) rfl
theorem q1168 : (Jvm.Cond.code ({ cls := "QuotedRiver", name := "depthOf", desc := "(I)I" } : Jvm.MethodName) prog_1_method_31_code (4 : Nat) (Option.some Jvm.ClassFile.FieldType.int)) ∈ lw_all := lw_g (lw_at lw_m5 116 rfl) rfl
theorem q1170 : (Jvm.Cond.instanceMethod ({ cls := "QuotedRiver", name := "rings", desc := "()I" } : Jvm.MethodName)) ∈ lw_all := lw_g (lw_at lw_m5 118 rfl) rfl
theorem q1171 : (Jvm.Cond.selects "QuotedRiver" ({ cls := "QuotedRiver", name := "rings", desc := "()I" } : Jvm.MethodName) ({ cls := "QuotedRiver", name := "rings", desc := "()I" } : Jvm.MethodName)) ∈ lw_all := lw_g (lw_at lw_m5 119 rfl) rfl
theorem q1172 : (Jvm.Cond.code ({ cls := "QuotedRiver", name := "rings", desc := "()I" } : Jvm.MethodName) prog_1_method_33_code (5 : Nat) (Option.some Jvm.ClassFile.FieldType.int)) ∈ lw_all := lw_g (lw_at lw_m5 120 rfl) rfl
theorem q1174 : (Jvm.Cond.instanceMethod ({ cls := "QuotedRiver", name := "rained", desc := "(I)I" } : Jvm.MethodName)) ∈ lw_all := lw_g (lw_at lw_m5 122 rfl) rfl
theorem q1175 : (Jvm.Cond.selects "QuotedRiver" ({ cls := "QuotedRiver", name := "rained", desc := "(I)I" } : Jvm.MethodName) ({ cls := "QuotedRiver", name := "rained", desc := "(I)I" } : Jvm.MethodName)) ∈ lw_all := lw_g (lw_at lw_m5 123 rfl) rfl
theorem q1176 : (Jvm.Cond.code ({ cls := "QuotedRiver", name := "rained", desc := "(I)I" } : Jvm.MethodName) prog_1_method_34_code (4 : Nat) (Option.some Jvm.ClassFile.FieldType.int)) ∈ lw_all := lw_g (lw_at lw_m5 124 rfl) rfl
theorem q1178 : (Jvm.Cond.instanceMethod ({ cls := "QuotedRiver", name := "lowest", desc := "()I" } : Jvm.MethodName)) ∈ lw_all := lw_g (lw_at lw_m5 126 rfl) rfl
theorem q1179 : (Jvm.Cond.selects "QuotedRiver" ({ cls := "QuotedRiver", name := "lowest", desc := "()I" } : Jvm.MethodName) ({ cls := "QuotedRiver", name := "lowest", desc := "()I" } : Jvm.MethodName)) ∈ lw_all := lw_g (lw_at lw_m5 127 rfl) rfl
theorem q1180 : (Jvm.Cond.code ({ cls := "QuotedRiver", name := "lowest", desc := "()I" } : Jvm.MethodName) prog_1_method_35_code (3 : Nat) (Option.some Jvm.ClassFile.FieldType.int)) ∈ lw_all := lw_g (lw_at lw_m5 128 rfl) rfl
theorem q1182 : (Jvm.Cond.instanceMethod ({ cls := "QuotedRiver", name := "deeper", desc := "()I" } : Jvm.MethodName)) ∈ lw_all := lw_g (lw_at lw_m5 130 rfl) rfl
theorem q1183 : (Jvm.Cond.selects "QuotedRiver" ({ cls := "QuotedRiver", name := "deeper", desc := "()I" } : Jvm.MethodName) ({ cls := "QuotedRiver", name := "deeper", desc := "()I" } : Jvm.MethodName)) ∈ lw_all := lw_g (lw_at lw_m5 131 rfl) rfl
theorem q1184 : (Jvm.Cond.code ({ cls := "QuotedRiver", name := "deeper", desc := "()I" } : Jvm.MethodName) prog_1_method_36_code (2 : Nat) (Option.some Jvm.ClassFile.FieldType.int)) ∈ lw_all := lw_g (lw_at lw_m5 132 rfl) rfl
theorem q1185 : (Jvm.Cond.methodLink "QuotedRiver" (226 : Nat) ({ cls := "QuotedRiver", name := "lowest", desc := "()I" } : Jvm.MethodName)) ∈ lw_all := lw_g (lw_at lw_m5 133 rfl) rfl
theorem q1186 : (Jvm.Cond.methodLink "QuotedRiver" (229 : Nat) ({ cls := "java/lang/Math", name := "min", desc := "(II)I" } : Jvm.MethodName)) ∈ lw_all := lw_g (lw_at lw_m5 134 rfl) rfl
theorem q1188 : (Jvm.Cond.instanceMethod ({ cls := "QuotedRiver", name := "goes", desc := "(II)I" } : Jvm.MethodName)) ∈ lw_all := lw_g (lw_at lw_m5 136 rfl) rfl
theorem q1189 : (Jvm.Cond.selects "QuotedRiver" ({ cls := "QuotedRiver", name := "goes", desc := "(II)I" } : Jvm.MethodName) ({ cls := "QuotedRiver", name := "goes", desc := "(II)I" } : Jvm.MethodName)) ∈ lw_all := lw_g (lw_at lw_m5 137 rfl) rfl
theorem q1190 : (Jvm.Cond.code ({ cls := "QuotedRiver", name := "goes", desc := "(II)I" } : Jvm.MethodName) prog_1_method_37_code (3 : Nat) (Option.some Jvm.ClassFile.FieldType.int)) ∈ lw_all := lw_g (lw_at lw_m5 138 rfl) rfl
theorem q1191 : (Jvm.Cond.methodLink "QuotedRiver" (237 : Nat) ({ cls := "QuotedRiver", name := "isOn", desc := "(II)Z" } : Jvm.MethodName)) ∈ lw_all := lw_g (lw_at lw_m5 139 rfl) rfl
theorem q1193 : (Jvm.Cond.instanceMethod ({ cls := "QuotedRiver", name := "used", desc := "(II)I" } : Jvm.MethodName)) ∈ lw_all := lw_g (lw_at lw_m5 141 rfl) rfl
theorem q1194 : (Jvm.Cond.selects "QuotedRiver" ({ cls := "QuotedRiver", name := "used", desc := "(II)I" } : Jvm.MethodName) ({ cls := "QuotedRiver", name := "used", desc := "(II)I" } : Jvm.MethodName)) ∈ lw_all := lw_g (lw_at lw_m5 142 rfl) rfl
theorem q1195 : (Jvm.Cond.code ({ cls := "QuotedRiver", name := "used", desc := "(II)I" } : Jvm.MethodName) prog_1_method_38_code (3 : Nat) (Option.some Jvm.ClassFile.FieldType.int)) ∈ lw_all := lw_g (lw_at lw_m5 143 rfl) rfl
theorem q1197 : (Jvm.Cond.instanceMethod ({ cls := "QuotedRiver", name := "together", desc := "(II)I" } : Jvm.MethodName)) ∈ lw_all := lw_g (lw_at lw_m5 145 rfl) rfl
theorem q1198 : (Jvm.Cond.selects "QuotedRiver" ({ cls := "QuotedRiver", name := "together", desc := "(II)I" } : Jvm.MethodName) ({ cls := "QuotedRiver", name := "together", desc := "(II)I" } : Jvm.MethodName)) ∈ lw_all := lw_g (lw_at lw_m5 146 rfl) rfl
theorem q1199 : (Jvm.Cond.code ({ cls := "QuotedRiver", name := "together", desc := "(II)I" } : Jvm.MethodName) prog_1_method_39_code (5 : Nat) (Option.some Jvm.ClassFile.FieldType.int)) ∈ lw_all := lw_g (lw_at lw_m5 147 rfl) rfl
theorem q1201 : (Jvm.Cond.instanceMethod ({ cls := "QuotedRiver", name := "again", desc := "(II)I" } : Jvm.MethodName)) ∈ lw_all := lw_g (lw_at lw_m5 149 rfl) rfl
theorem q1202 : (Jvm.Cond.selects "QuotedRiver" ({ cls := "QuotedRiver", name := "again", desc := "(II)I" } : Jvm.MethodName) ({ cls := "QuotedRiver", name := "again", desc := "(II)I" } : Jvm.MethodName)) ∈ lw_all := lw_g (lw_at lw_m5 150 rfl) rfl
theorem q1203 : (Jvm.Cond.code ({ cls := "QuotedRiver", name := "again", desc := "(II)I" } : Jvm.MethodName) prog_1_method_40_code (3 : Nat) (Option.some Jvm.ClassFile.FieldType.int)) ∈ lw_all := lw_g (lw_at lw_m5 151 rfl) rfl
theorem q1205 : (Jvm.Cond.instanceMethod ({ cls := "QuotedRiver", name := "can", desc := "(I)I" } : Jvm.MethodName)) ∈ lw_all := lw_g (lw_at lw_m5 153 rfl) rfl
theorem q1206 : (Jvm.Cond.selects "QuotedRiver" ({ cls := "QuotedRiver", name := "can", desc := "(I)I" } : Jvm.MethodName) ({ cls := "QuotedRiver", name := "can", desc := "(I)I" } : Jvm.MethodName)) ∈ lw_all := lw_g (lw_at lw_m5 154 rfl) rfl
theorem q1207 : (Jvm.Cond.code ({ cls := "QuotedRiver", name := "can", desc := "(I)I" } : Jvm.MethodName) prog_1_method_41_code (4 : Nat) (Option.some Jvm.ClassFile.FieldType.int)) ∈ lw_all := lw_g (lw_at lw_m5 155 rfl) rfl
theorem q1208 : (Jvm.Cond.methodLink "QuotedRiver" (248 : Nat) ({ cls := "QuotedRiver$Stick", name := "way", desc := "()I" } : Jvm.MethodName)) ∈ lw_all := lw_g (lw_at lw_m5 156 rfl) rfl
theorem q1213 : (Jvm.Cond.instanceMethod ({ cls := "QuotedRiver", name := "slowly", desc := "(II)I" } : Jvm.MethodName)) ∈ lw_all := lw_g (lw_at lw_m5 161 rfl) rfl
theorem q1214 : (Jvm.Cond.selects "QuotedRiver" ({ cls := "QuotedRiver", name := "slowly", desc := "(II)I" } : Jvm.MethodName) ({ cls := "QuotedRiver", name := "slowly", desc := "(II)I" } : Jvm.MethodName)) ∈ lw_all := lw_g (lw_at lw_m5 162 rfl) rfl
theorem q1215 : (Jvm.Cond.code ({ cls := "QuotedRiver", name := "slowly", desc := "(II)I" } : Jvm.MethodName) prog_1_method_42_code (6 : Nat) (Option.some Jvm.ClassFile.FieldType.int)) ∈ lw_all := lw_g (lw_at lw_m5 163 rfl) rfl
theorem q1216 : (Jvm.Cond.methodLink "QuotedRiver" (251 : Nat) ({ cls := "QuotedRiver$Stick", name := "first", desc := "(I)I" } : Jvm.MethodName)) ∈ lw_all := lw_g (lw_at lw_m5 164 rfl) rfl
theorem q1220 : (Jvm.Cond.methodLink "QuotedRiver" (254 : Nat) ({ cls := "java/lang/Math", name := "max", desc := "(II)I" } : Jvm.MethodName)) ∈ lw_all := lw_g (lw_at lw_m5 168 rfl) rfl
theorem q1222 : (Jvm.Cond.instanceMethod ({ cls := "QuotedRiver", name := "mean", desc := "(II)J" } : Jvm.MethodName)) ∈ lw_all := lw_g (lw_at lw_m5 170 rfl) rfl
theorem q1223 : (Jvm.Cond.selects "QuotedRiver" ({ cls := "QuotedRiver", name := "mean", desc := "(II)J" } : Jvm.MethodName) ({ cls := "QuotedRiver", name := "mean", desc := "(II)J" } : Jvm.MethodName)) ∈ lw_all := lw_g (lw_at lw_m5 171 rfl) rfl
theorem q1224 : (Jvm.Cond.code ({ cls := "QuotedRiver", name := "mean", desc := "(II)J" } : Jvm.MethodName) prog_1_method_43_code (7 : Nat) (Option.some Jvm.ClassFile.FieldType.long)) ∈ lw_all := lw_g (lw_at lw_m5 172 rfl) rfl
theorem q1225 : (Jvm.Cond.constantLong "QuotedRiver" (257 : Nat) (14 : Int64)) ∈ lw_all := lw_g (lw_at lw_m5 173 rfl) rfl
theorem q1226 : (Jvm.Cond.methodLink "QuotedRiver" (259 : Nat) ({ cls := "QuotedRiver", name := "isBit", desc := "(I)Z" } : Jvm.MethodName)) ∈ lw_all := lw_g (lw_at lw_m5 174 rfl) rfl
theorem q1227 : (Jvm.Cond.static ({ cls := "QuotedRiver", name := "isBit", desc := "(I)Z" } : Jvm.MethodName)) ∈ lw_all := lw_g (lw_at lw_m5 175 rfl) rfl
theorem q1228 : (Jvm.Cond.code ({ cls := "QuotedRiver", name := "isBit", desc := "(I)Z" } : Jvm.MethodName) prog_1_method_19_code (1 : Nat) (Option.some Jvm.ClassFile.FieldType.boolean)) ∈ lw_all := lw_g (lw_at lw_m5 176 rfl) rfl
theorem q1229 : (Jvm.Cond.constantLong "QuotedRiver" (262 : Nat) (-2 : Int64)) ∈ lw_all := lw_g (lw_at lw_m5 177 rfl) rfl
theorem q1230 : (Jvm.Cond.methodLink "QuotedRiver" (264 : Nat) ({ cls := "QuotedRiver", name := "laysLikely", desc := "(I)V" } : Jvm.MethodName)) ∈ lw_all := lw_g (lw_at lw_m5 178 rfl) rfl
theorem q1231 : (Jvm.Cond.privateMethod ({ cls := "QuotedRiver", name := "laysLikely", desc := "(I)V" } : Jvm.MethodName)) ∈ lw_tbl := lw_at lw_m5 179 rfl
theorem q1232 : (Jvm.Cond.instanceMethod ({ cls := "QuotedRiver", name := "laysLikely", desc := "(I)V" } : Jvm.MethodName)) ∈ lw_all := lw_g (lw_at lw_m5 180 rfl) rfl
theorem q1233 : (Jvm.Cond.code ({ cls := "QuotedRiver", name := "laysLikely", desc := "(I)V" } : Jvm.MethodName) prog_1_method_91_code (5 : Nat) (Option.none : Option Jvm.ClassFile.FieldType)) ∈ lw_all := lw_g (lw_at lw_m5 181 rfl) rfl
theorem q1234 : (Jvm.Cond.methodLink "QuotedRiver" (378 : Nat) ({ cls := "java/util/Arrays", name := "fill", desc := "([JJ)V" } : Jvm.MethodName)) ∈ lw_all := lw_g (lw_at lw_m5 182 rfl) rfl
theorem q1237 : (Jvm.Cond.methodLink "QuotedRiver" (390 : Nat) ({ cls := "java/lang/System", name := "arraycopy", desc := "(Ljava/lang/Object;ILjava/lang/Object;II)V" } : Jvm.MethodName)) ∈ lw_all := lw_g (lw_at lw_m5 185 rfl) rfl
theorem q1238 : (Jvm.Cond.constantLong "QuotedRiver" (268 : Nat) (10 : Int64)) ∈ lw_all := lw_g (lw_at lw_m5 186 rfl) rfl
theorem q1239 : (Jvm.Cond.methodLink "QuotedRiver" (270 : Nat) ({ cls := "QuotedRiver", name := "power", desc := "(JI)J" } : Jvm.MethodName)) ∈ lw_all := lw_g (lw_at lw_m5 187 rfl) rfl
theorem q1240 : (Jvm.Cond.static ({ cls := "QuotedRiver", name := "power", desc := "(JI)J" } : Jvm.MethodName)) ∈ lw_all := lw_g (lw_at lw_m5 188 rfl) rfl
theorem q1241 : (Jvm.Cond.code ({ cls := "QuotedRiver", name := "power", desc := "(JI)J" } : Jvm.MethodName) prog_1_method_93_code (3 : Nat) (Option.some Jvm.ClassFile.FieldType.long)) ∈ lw_all := lw_g (lw_at lw_m5 189 rfl) rfl
theorem q1242 : (Jvm.Cond.methodLink "QuotedRiver" (274 : Nat) ({ cls := "QuotedRiver", name := "common", desc := "(JJ)J" } : Jvm.MethodName)) ∈ lw_all := lw_g (lw_at lw_m5 190 rfl) rfl
theorem q1243 : (Jvm.Cond.static ({ cls := "QuotedRiver", name := "common", desc := "(JJ)J" } : Jvm.MethodName)) ∈ lw_all := lw_g (lw_at lw_m5 191 rfl) rfl
theorem q1244 : (Jvm.Cond.code ({ cls := "QuotedRiver", name := "common", desc := "(JJ)J" } : Jvm.MethodName) prog_1_method_94_code (4 : Nat) (Option.some Jvm.ClassFile.FieldType.long)) ∈ lw_all := lw_g (lw_at lw_m5 192 rfl) rfl
theorem q1246 : (Jvm.Cond.instanceMethod ({ cls := "QuotedRiver", name := "answer", desc := "(I)I" } : Jvm.MethodName)) ∈ lw_all := lw_g (lw_at lw_m5 194 rfl) rfl
theorem q1247 : (Jvm.Cond.selects "QuotedRiver" ({ cls := "QuotedRiver", name := "answer", desc := "(I)I" } : Jvm.MethodName) ({ cls := "QuotedRiver", name := "answer", desc := "(I)I" } : Jvm.MethodName)) ∈ lw_all := lw_g (lw_at lw_m5 195 rfl) rfl
theorem q1248 : (Jvm.Cond.code ({ cls := "QuotedRiver", name := "answer", desc := "(I)I" } : Jvm.MethodName) prog_1_method_44_code (4 : Nat) (Option.some Jvm.ClassFile.FieldType.int)) ∈ lw_all := lw_g (lw_at lw_m5 196 rfl) rfl
theorem q1249 : (Jvm.Cond.constantLong "QuotedRiver" (278 : Nat) (4 : Int64)) ∈ lw_all := lw_g (lw_at lw_m5 197 rfl) rfl
theorem q1250 : (Jvm.Cond.methodLink "QuotedRiver" (280 : Nat) ({ cls := "QuotedRiver", name := "hasOf", desc := "(II)I" } : Jvm.MethodName)) ∈ lw_all := lw_g (lw_at lw_m5 198 rfl) rfl
theorem q1251 : (Jvm.Cond.static ({ cls := "QuotedRiver", name := "hasOf", desc := "(II)I" } : Jvm.MethodName)) ∈ lw_all := lw_g (lw_at lw_m5 199 rfl) rfl
theorem q1252 : (Jvm.Cond.code ({ cls := "QuotedRiver", name := "hasOf", desc := "(II)I" } : Jvm.MethodName) prog_1_method_85_code (2 : Nat) (Option.some Jvm.ClassFile.FieldType.int)) ∈ lw_all := lw_g (lw_at lw_m5 200 rfl) rfl
theorem q1254 : (Jvm.Cond.instanceMethod ({ cls := "QuotedRiver", name := "rain", desc := "(II)I" } : Jvm.MethodName)) ∈ lw_all := lw_g (lw_at lw_m5 202 rfl) rfl
theorem q1255 : (Jvm.Cond.selects "QuotedRiver" ({ cls := "QuotedRiver", name := "rain", desc := "(II)I" } : Jvm.MethodName) ({ cls := "QuotedRiver", name := "rain", desc := "(II)I" } : Jvm.MethodName)) ∈ lw_all := lw_g (lw_at lw_m5 203 rfl) rfl
theorem q1256 : (Jvm.Cond.code ({ cls := "QuotedRiver", name := "rain", desc := "(II)I" } : Jvm.MethodName) prog_1_method_45_code (4 : Nat) (Option.some Jvm.ClassFile.FieldType.int)) ∈ lw_all := lw_g (lw_at lw_m5 204 rfl) rfl
theorem q1257 : (Jvm.Cond.classLink "QuotedRiver" (286 : Nat) "QuotedRiver$Rain") ∈ lw_all := lw_g (lw_at lw_m5 205 rfl) rfl
theorem q1259 : (Jvm.Cond.instanceMethod ({ cls := "QuotedRiver", name := "level", desc := "(I)I" } : Jvm.MethodName)) ∈ lw_all := lw_g (lw_at lw_m5 207 rfl) rfl
theorem q1260 : (Jvm.Cond.selects "QuotedRiver" ({ cls := "QuotedRiver", name := "level", desc := "(I)I" } : Jvm.MethodName) ({ cls := "QuotedRiver", name := "level", desc := "(I)I" } : Jvm.MethodName)) ∈ lw_all := lw_g (lw_at lw_m5 208 rfl) rfl
theorem q1261 : (Jvm.Cond.code ({ cls := "QuotedRiver", name := "level", desc := "(I)I" } : Jvm.MethodName) prog_1_method_46_code (2 : Nat) (Option.some Jvm.ClassFile.FieldType.int)) ∈ lw_all := lw_g (lw_at lw_m5 209 rfl) rfl
theorem q1264 : (Jvm.Cond.instanceMethod ({ cls := "QuotedRiver", name := "dry", desc := "(I)I" } : Jvm.MethodName)) ∈ lw_all := lw_g (lw_at lw_m5 212 rfl) rfl
theorem q1265 : (Jvm.Cond.selects "QuotedRiver" ({ cls := "QuotedRiver", name := "dry", desc := "(I)I" } : Jvm.MethodName) ({ cls := "QuotedRiver", name := "dry", desc := "(I)I" } : Jvm.MethodName)) ∈ lw_all := lw_g (lw_at lw_m5 213 rfl) rfl
theorem q1266 : (Jvm.Cond.code ({ cls := "QuotedRiver", name := "dry", desc := "(I)I" } : Jvm.MethodName) prog_1_method_48_code (3 : Nat) (Option.some Jvm.ClassFile.FieldType.int)) ∈ lw_all := lw_g (lw_at lw_m5 214 rfl) rfl
theorem q1268 : (Jvm.Cond.instanceMethod ({ cls := "QuotedRiver", name := "drought", desc := "(I)I" } : Jvm.MethodName)) ∈ lw_all := lw_g (lw_at lw_m5 216 rfl) rfl
theorem q1269 : (Jvm.Cond.selects "QuotedRiver" ({ cls := "QuotedRiver", name := "drought", desc := "(I)I" } : Jvm.MethodName) ({ cls := "QuotedRiver", name := "drought", desc := "(I)I" } : Jvm.MethodName)) ∈ lw_all := lw_g (lw_at lw_m5 217 rfl) rfl
theorem q1270 : (Jvm.Cond.code ({ cls := "QuotedRiver", name := "drought", desc := "(I)I" } : Jvm.MethodName) prog_1_method_49_code (5 : Nat) (Option.some Jvm.ClassFile.FieldType.int)) ∈ lw_all := lw_g (lw_at lw_m5 218 rfl) rfl
theorem q1272 : (Jvm.Cond.instanceMethod ({ cls := "QuotedRiver", name := "where", desc := "(III)I" } : Jvm.MethodName)) ∈ lw_all := lw_g (lw_at lw_m5 220 rfl) rfl
theorem q1273 : (Jvm.Cond.selects "QuotedRiver" ({ cls := "QuotedRiver", name := "where", desc := "(III)I" } : Jvm.MethodName) ({ cls := "QuotedRiver", name := "where", desc := "(III)I" } : Jvm.MethodName)) ∈ lw_all := lw_g (lw_at lw_m5 221 rfl) rfl
theorem q1274 : (Jvm.Cond.code ({ cls := "QuotedRiver", name := "where", desc := "(III)I" } : Jvm.MethodName) prog_1_method_50_code (5 : Nat) (Option.some Jvm.ClassFile.FieldType.int)) ∈ lw_all := lw_g (lw_at lw_m5 222 rfl) rfl
theorem q1276 : (Jvm.Cond.instanceMethod ({ cls := "QuotedRiver", name := "sea", desc := "(II)I" } : Jvm.MethodName)) ∈ lw_all := lw_g (lw_at lw_m5 224 rfl) rfl
theorem q1277 : (Jvm.Cond.selects "QuotedRiver" ({ cls := "QuotedRiver", name := "sea", desc := "(II)I" } : Jvm.MethodName) ({ cls := "QuotedRiver", name := "sea", desc := "(II)I" } : Jvm.MethodName)) ∈ lw_all := lw_g (lw_at lw_m5 225 rfl) rfl
theorem q1278 : (Jvm.Cond.code ({ cls := "QuotedRiver", name := "sea", desc := "(II)I" } : Jvm.MethodName) prog_1_method_51_code (3 : Nat) (Option.some Jvm.ClassFile.FieldType.int)) ∈ lw_all := lw_g (lw_at lw_m5 226 rfl) rfl
theorem q1280 : (Jvm.Cond.instanceMethod ({ cls := "QuotedRiver", name := "comes", desc := "(III)I" } : Jvm.MethodName)) ∈ lw_all := lw_g (lw_at lw_m5 228 rfl) rfl
theorem q1281 : (Jvm.Cond.selects "QuotedRiver" ({ cls := "QuotedRiver", name := "comes", desc := "(III)I" } : Jvm.MethodName) ({ cls := "QuotedRiver", name := "comes", desc := "(III)I" } : Jvm.MethodName)) ∈ lw_all := lw_g (lw_at lw_m5 229 rfl) rfl
theorem q1282 : (Jvm.Cond.code ({ cls := "QuotedRiver", name := "comes", desc := "(III)I" } : Jvm.MethodName) prog_1_method_52_code (4 : Nat) (Option.some Jvm.ClassFile.FieldType.int)) ∈ lw_all := lw_g (lw_at lw_m5 230 rfl) rfl
theorem q1284 : (Jvm.Cond.instanceMethod ({ cls := "QuotedRiver", name := "way", desc := "(II)I" } : Jvm.MethodName)) ∈ lw_all := lw_g (lw_at lw_m5 232 rfl) rfl
theorem q1285 : (Jvm.Cond.selects "QuotedRiver" ({ cls := "QuotedRiver", name := "way", desc := "(II)I" } : Jvm.MethodName) ({ cls := "QuotedRiver", name := "way", desc := "(II)I" } : Jvm.MethodName)) ∈ lw_all := lw_g (lw_at lw_m5 233 rfl) rfl
theorem q1286 : (Jvm.Cond.code ({ cls := "QuotedRiver", name := "way", desc := "(II)I" } : Jvm.MethodName) prog_1_method_53_code (3 : Nat) (Option.some Jvm.ClassFile.FieldType.int)) ∈ lw_all := lw_g (lw_at lw_m5 234 rfl) rfl
theorem q1288 : (Jvm.Cond.instanceMethod ({ cls := "QuotedRiver", name := "leaves", desc := "(II)I" } : Jvm.MethodName)) ∈ lw_all := lw_g (lw_at lw_m5 236 rfl) rfl
theorem q1289 : (Jvm.Cond.selects "QuotedRiver" ({ cls := "QuotedRiver", name := "leaves", desc := "(II)I" } : Jvm.MethodName) ({ cls := "QuotedRiver", name := "leaves", desc := "(II)I" } : Jvm.MethodName)) ∈ lw_all := lw_g (lw_at lw_m5 237 rfl) rfl
theorem q1290 : (Jvm.Cond.code ({ cls := "QuotedRiver", name := "leaves", desc := "(II)I" } : Jvm.MethodName) prog_1_method_54_code (3 : Nat) (Option.some Jvm.ClassFile.FieldType.int)) ∈ lw_all := lw_g (lw_at lw_m5 238 rfl) rfl
theorem q1292 : (Jvm.Cond.instanceMethod ({ cls := "QuotedRiver", name := "waits", desc := "(II)I" } : Jvm.MethodName)) ∈ lw_all := lw_g (lw_at lw_m6 0 rfl) rfl
theorem q1293 : (Jvm.Cond.selects "QuotedRiver" ({ cls := "QuotedRiver", name := "waits", desc := "(II)I" } : Jvm.MethodName) ({ cls := "QuotedRiver", name := "waits", desc := "(II)I" } : Jvm.MethodName)) ∈ lw_all := lw_g (lw_at lw_m6 1 rfl) rfl
theorem q1294 : (Jvm.Cond.code ({ cls := "QuotedRiver", name := "waits", desc := "(II)I" } : Jvm.MethodName) prog_1_method_55_code (3 : Nat) (Option.some Jvm.ClassFile.FieldType.int)) ∈ lw_all := lw_g (lw_at lw_m6 2 rfl) rfl
theorem q1296 : (Jvm.Cond.instanceMethod ({ cls := "QuotedRiver", name := "jumps", desc := "(II)I" } : Jvm.MethodName)) ∈ lw_all := lw_g (lw_at lw_m6 4 rfl) rfl
theorem q1297 : (Jvm.Cond.selects "QuotedRiver" ({ cls := "QuotedRiver", name := "jumps", desc := "(II)I" } : Jvm.MethodName) ({ cls := "QuotedRiver", name := "jumps", desc := "(II)I" } : Jvm.MethodName)) ∈ lw_all := lw_g (lw_at lw_m6 5 rfl) rfl
theorem q1298 : (Jvm.Cond.code ({ cls := "QuotedRiver", name := "jumps", desc := "(II)I" } : Jvm.MethodName) prog_1_method_56_code (3 : Nat) (Option.some Jvm.ClassFile.FieldType.int)) ∈ lw_all := lw_g (lw_at lw_m6 6 rfl) rfl
theorem q1300 : (Jvm.Cond.instanceMethod ({ cls := "QuotedRiver", name := "finds", desc := "(II)I" } : Jvm.MethodName)) ∈ lw_all := lw_g (lw_at lw_m6 8 rfl) rfl
theorem q1301 : (Jvm.Cond.selects "QuotedRiver" ({ cls := "QuotedRiver", name := "finds", desc := "(II)I" } : Jvm.MethodName) ({ cls := "QuotedRiver", name := "finds", desc := "(II)I" } : Jvm.MethodName)) ∈ lw_all := lw_g (lw_at lw_m6 9 rfl) rfl
theorem q1302 : (Jvm.Cond.code ({ cls := "QuotedRiver", name := "finds", desc := "(II)I" } : Jvm.MethodName) prog_1_method_57_code (5 : Nat) (Option.some Jvm.ClassFile.FieldType.int)) ∈ lw_all := lw_g (lw_at lw_m6 10 rfl) rfl
theorem q1305 : (Jvm.Cond.instanceMethod ({ cls := "QuotedRiver", name := "ends", desc := "(I)I" } : Jvm.MethodName)) ∈ lw_all := lw_g (lw_at lw_m6 13 rfl) rfl
theorem q1306 : (Jvm.Cond.selects "QuotedRiver" ({ cls := "QuotedRiver", name := "ends", desc := "(I)I" } : Jvm.MethodName) ({ cls := "QuotedRiver", name := "ends", desc := "(I)I" } : Jvm.MethodName)) ∈ lw_all := lw_g (lw_at lw_m6 14 rfl) rfl
theorem q1307 : (Jvm.Cond.code ({ cls := "QuotedRiver", name := "ends", desc := "(I)I" } : Jvm.MethodName) prog_1_method_59_code (4 : Nat) (Option.some Jvm.ClassFile.FieldType.int)) ∈ lw_all := lw_g (lw_at lw_m6 15 rfl) rfl
theorem q1309 : (Jvm.Cond.instanceMethod ({ cls := "QuotedRiver", name := "meet", desc := "(II)I" } : Jvm.MethodName)) ∈ lw_all := lw_g (lw_at lw_m6 17 rfl) rfl
theorem q1310 : (Jvm.Cond.selects "QuotedRiver" ({ cls := "QuotedRiver", name := "meet", desc := "(II)I" } : Jvm.MethodName) ({ cls := "QuotedRiver", name := "meet", desc := "(II)I" } : Jvm.MethodName)) ∈ lw_all := lw_g (lw_at lw_m6 18 rfl) rfl
theorem q1311 : (Jvm.Cond.code ({ cls := "QuotedRiver", name := "meet", desc := "(II)I" } : Jvm.MethodName) prog_1_method_60_code (4 : Nat) (Option.some Jvm.ClassFile.FieldType.int)) ∈ lw_all := lw_g (lw_at lw_m6 19 rfl) rfl
theorem q1313 : (Jvm.Cond.instanceMethod ({ cls := "QuotedRiver", name := "soon", desc := "(II)I" } : Jvm.MethodName)) ∈ lw_all := lw_g (lw_at lw_m6 21 rfl) rfl
theorem q1314 : (Jvm.Cond.selects "QuotedRiver" ({ cls := "QuotedRiver", name := "soon", desc := "(II)I" } : Jvm.MethodName) ({ cls := "QuotedRiver", name := "soon", desc := "(II)I" } : Jvm.MethodName)) ∈ lw_all := lw_g (lw_at lw_m6 22 rfl) rfl
theorem q1315 : (Jvm.Cond.code ({ cls := "QuotedRiver", name := "soon", desc := "(II)I" } : Jvm.MethodName) prog_1_method_61_code (7 : Nat) (Option.some Jvm.ClassFile.FieldType.int)) ∈ lw_all := lw_g (lw_at lw_m6 23 rfl) rfl
theorem q1317 : (Jvm.Cond.instanceMethod ({ cls := "QuotedRiver", name := "quick", desc := "(II)I" } : Jvm.MethodName)) ∈ lw_all := lw_g (lw_at lw_m6 25 rfl) rfl
theorem q1318 : (Jvm.Cond.selects "QuotedRiver" ({ cls := "QuotedRiver", name := "quick", desc := "(II)I" } : Jvm.MethodName) ({ cls := "QuotedRiver", name := "quick", desc := "(II)I" } : Jvm.MethodName)) ∈ lw_all := lw_g (lw_at lw_m6 26 rfl) rfl
theorem q1319 : (Jvm.Cond.code ({ cls := "QuotedRiver", name := "quick", desc := "(II)I" } : Jvm.MethodName) prog_1_method_63_code (3 : Nat) (Option.some Jvm.ClassFile.FieldType.int)) ∈ lw_all := lw_g (lw_at lw_m6 27 rfl) rfl
theorem q1320 : (Jvm.Cond.methodLink "QuotedRiver" (306 : Nat) ({ cls := "QuotedRiver", name := "quickOf", desc := "(II)I" } : Jvm.MethodName)) ∈ lw_all := lw_g (lw_at lw_m6 28 rfl) rfl
theorem q1321 : (Jvm.Cond.privateMethod ({ cls := "QuotedRiver", name := "quickOf", desc := "(II)I" } : Jvm.MethodName)) ∈ lw_tbl := lw_at lw_m6 29 rfl
theorem q1322 : (Jvm.Cond.instanceMethod ({ cls := "QuotedRiver", name := "quickOf", desc := "(II)I" } : Jvm.MethodName)) ∈ lw_all := lw_g (lw_at lw_m6 30 rfl) rfl
theorem q1323 : (Jvm.Cond.code ({ cls := "QuotedRiver", name := "quickOf", desc := "(II)I" } : Jvm.MethodName) prog_1_method_62_code (6 : Nat) (Option.some Jvm.ClassFile.FieldType.int)) ∈ lw_all := lw_g (lw_at lw_m6 31 rfl) rfl
theorem q1325 : (Jvm.Cond.instanceMethod ({ cls := "QuotedRiver", name := "quickly", desc := "(II)I" } : Jvm.MethodName)) ∈ lw_all := lw_g (lw_at lw_m6 33 rfl) rfl
theorem q1326 : (Jvm.Cond.selects "QuotedRiver" ({ cls := "QuotedRiver", name := "quickly", desc := "(II)I" } : Jvm.MethodName) ({ cls := "QuotedRiver", name := "quickly", desc := "(II)I" } : Jvm.MethodName)) ∈ lw_all := lw_g (lw_at lw_m6 34 rfl) rfl
theorem q1327 : (Jvm.Cond.code ({ cls := "QuotedRiver", name := "quickly", desc := "(II)I" } : Jvm.MethodName) prog_1_method_64_code (3 : Nat) (Option.some Jvm.ClassFile.FieldType.int)) ∈ lw_all := lw_g (lw_at lw_m6 35 rfl) rfl
theorem q1329 : (Jvm.Cond.instanceMethod ({ cls := "QuotedRiver", name := "late", desc := "(III)I" } : Jvm.MethodName)) ∈ lw_all := lw_g (lw_at lw_m6 37 rfl) rfl
theorem q1330 : (Jvm.Cond.selects "QuotedRiver" ({ cls := "QuotedRiver", name := "late", desc := "(III)I" } : Jvm.MethodName) ({ cls := "QuotedRiver", name := "late", desc := "(III)I" } : Jvm.MethodName)) ∈ lw_all := lw_g (lw_at lw_m6 38 rfl) rfl
theorem q1331 : (Jvm.Cond.code ({ cls := "QuotedRiver", name := "late", desc := "(III)I" } : Jvm.MethodName) prog_1_method_65_code (5 : Nat) (Option.some Jvm.ClassFile.FieldType.int)) ∈ lw_all := lw_g (lw_at lw_m6 39 rfl) rfl
theorem q1333 : (Jvm.Cond.instanceMethod ({ cls := "QuotedRiver", name := "often", desc := "(II)I" } : Jvm.MethodName)) ∈ lw_all := lw_g (lw_at lw_m6 41 rfl) rfl
theorem q1334 : (Jvm.Cond.selects "QuotedRiver" ({ cls := "QuotedRiver", name := "often", desc := "(II)I" } : Jvm.MethodName) ({ cls := "QuotedRiver", name := "often", desc := "(II)I" } : Jvm.MethodName)) ∈ lw_all := lw_g (lw_at lw_m6 42 rfl) rfl
theorem q1335 : (Jvm.Cond.code ({ cls := "QuotedRiver", name := "often", desc := "(II)I" } : Jvm.MethodName) prog_1_method_66_code (5 : Nat) (Option.some Jvm.ClassFile.FieldType.int)) ∈ lw_all := lw_g (lw_at lw_m6 43 rfl) rfl
theorem q1337 : (Jvm.Cond.instanceMethod ({ cls := "QuotedRiver", name := "stop", desc := "(II)I" } : Jvm.MethodName)) ∈ lw_all := lw_g (lw_at lw_m6 45 rfl) rfl
theorem q1338 : (Jvm.Cond.selects "QuotedRiver" ({ cls := "QuotedRiver", name := "stop", desc := "(II)I" } : Jvm.MethodName) ({ cls := "QuotedRiver", name := "stop", desc := "(II)I" } : Jvm.MethodName)) ∈ lw_all := lw_g (lw_at lw_m6 46 rfl) rfl
theorem q1339 : (Jvm.Cond.code ({ cls := "QuotedRiver", name := "stop", desc := "(II)I" } : Jvm.MethodName) prog_1_method_69_code (4 : Nat) (Option.some Jvm.ClassFile.FieldType.int)) ∈ lw_all := lw_g (lw_at lw_m6 47 rfl) rfl
theorem q1340 : (Jvm.Cond.methodLink "QuotedRiver" (316 : Nat) ({ cls := "QuotedRiver", name := "stopsOf", desc := "(II)I" } : Jvm.MethodName)) ∈ lw_all := lw_g (lw_at lw_m6 48 rfl) rfl
theorem q1341 : (Jvm.Cond.privateMethod ({ cls := "QuotedRiver", name := "stopsOf", desc := "(II)I" } : Jvm.MethodName)) ∈ lw_tbl := lw_at lw_m6 49 rfl
theorem q1342 : (Jvm.Cond.instanceMethod ({ cls := "QuotedRiver", name := "stopsOf", desc := "(II)I" } : Jvm.MethodName)) ∈ lw_all := lw_g (lw_at lw_m6 50 rfl) rfl
theorem q1343 : (Jvm.Cond.code ({ cls := "QuotedRiver", name := "stopsOf", desc := "(II)I" } : Jvm.MethodName) prog_1_method_68_code (5 : Nat) (Option.some Jvm.ClassFile.FieldType.int)) ∈ lw_all := lw_g (lw_at lw_m6 51 rfl) rfl
theorem q1344 : (Jvm.Cond.methodLink "QuotedRiver" (312 : Nat) ({ cls := "QuotedRiver", name := "isStopped", desc := "(III)Z" } : Jvm.MethodName)) ∈ lw_all := lw_g (lw_at lw_m6 52 rfl) rfl
theorem q1345 : (Jvm.Cond.privateMethod ({ cls := "QuotedRiver", name := "isStopped", desc := "(III)Z" } : Jvm.MethodName)) ∈ lw_tbl := lw_at lw_m6 53 rfl
theorem q1346 : (Jvm.Cond.instanceMethod ({ cls := "QuotedRiver", name := "isStopped", desc := "(III)Z" } : Jvm.MethodName)) ∈ lw_all := lw_g (lw_at lw_m6 54 rfl) rfl
theorem q1347 : (Jvm.Cond.code ({ cls := "QuotedRiver", name := "isStopped", desc := "(III)Z" } : Jvm.MethodName) prog_1_method_67_code (5 : Nat) (Option.some Jvm.ClassFile.FieldType.boolean)) ∈ lw_all := lw_g (lw_at lw_m6 55 rfl) rfl
theorem q1349 : (Jvm.Cond.instanceMethod ({ cls := "QuotedRiver", name := "stops", desc := "(II)I" } : Jvm.MethodName)) ∈ lw_all := lw_g (lw_at lw_m6 57 rfl) rfl
theorem q1350 : (Jvm.Cond.selects "QuotedRiver" ({ cls := "QuotedRiver", name := "stops", desc := "(II)I" } : Jvm.MethodName) ({ cls := "QuotedRiver", name := "stops", desc := "(II)I" } : Jvm.MethodName)) ∈ lw_all := lw_g (lw_at lw_m6 58 rfl) rfl
theorem q1351 : (Jvm.Cond.code ({ cls := "QuotedRiver", name := "stops", desc := "(II)I" } : Jvm.MethodName) prog_1_method_70_code (3 : Nat) (Option.some Jvm.ClassFile.FieldType.int)) ∈ lw_all := lw_g (lw_at lw_m6 59 rfl) rfl
theorem q1353 : (Jvm.Cond.instanceMethod ({ cls := "QuotedRiver", name := "shut", desc := "(II)I" } : Jvm.MethodName)) ∈ lw_all := lw_g (lw_at lw_m6 61 rfl) rfl
theorem q1354 : (Jvm.Cond.selects "QuotedRiver" ({ cls := "QuotedRiver", name := "shut", desc := "(II)I" } : Jvm.MethodName) ({ cls := "QuotedRiver", name := "shut", desc := "(II)I" } : Jvm.MethodName)) ∈ lw_all := lw_g (lw_at lw_m6 62 rfl) rfl
theorem q1355 : (Jvm.Cond.code ({ cls := "QuotedRiver", name := "shut", desc := "(II)I" } : Jvm.MethodName) prog_1_method_72_code (8 : Nat) (Option.some Jvm.ClassFile.FieldType.int)) ∈ lw_all := lw_g (lw_at lw_m6 63 rfl) rfl
theorem q1356 : (Jvm.Cond.methodLink "QuotedRiver" (319 : Nat) ({ cls := "QuotedRiver", name := "orFar", desc := "(I)I" } : Jvm.MethodName)) ∈ lw_all := lw_g (lw_at lw_m6 64 rfl) rfl
theorem q1357 : (Jvm.Cond.static ({ cls := "QuotedRiver", name := "orFar", desc := "(I)I" } : Jvm.MethodName)) ∈ lw_all := lw_g (lw_at lw_m6 65 rfl) rfl
theorem q1358 : (Jvm.Cond.code ({ cls := "QuotedRiver", name := "orFar", desc := "(I)I" } : Jvm.MethodName) prog_1_method_71_code (1 : Nat) (Option.some Jvm.ClassFile.FieldType.int)) ∈ lw_all := lw_g (lw_at lw_m6 66 rfl) rfl
theorem q1360 : (Jvm.Cond.instanceMethod ({ cls := "QuotedRiver", name := "pour", desc := "(III)I" } : Jvm.MethodName)) ∈ lw_all := lw_g (lw_at lw_m6 68 rfl) rfl
theorem q1361 : (Jvm.Cond.selects "QuotedRiver" ({ cls := "QuotedRiver", name := "pour", desc := "(III)I" } : Jvm.MethodName) ({ cls := "QuotedRiver", name := "pour", desc := "(III)I" } : Jvm.MethodName)) ∈ lw_all := lw_g (lw_at lw_m6 69 rfl) rfl
theorem q1362 : (Jvm.Cond.code ({ cls := "QuotedRiver", name := "pour", desc := "(III)I" } : Jvm.MethodName) prog_1_method_73_code (5 : Nat) (Option.some Jvm.ClassFile.FieldType.int)) ∈ lw_all := lw_g (lw_at lw_m6 70 rfl) rfl
theorem q1363 : (Jvm.Cond.methodLink "QuotedRiver" (322 : Nat) ({ cls := "QuotedRiver$Water", name := "flows", desc := "()LQuotedRiver$Water;" } : Jvm.MethodName)) ∈ lw_all := lw_g (lw_at lw_m6 71 rfl) rfl
theorem q1365 : (Jvm.Cond.instanceMethod ({ cls := "QuotedRiver", name := "fits", desc := "(I)I" } : Jvm.MethodName)) ∈ lw_all := lw_g (lw_at lw_m6 73 rfl) rfl
theorem q1366 : (Jvm.Cond.selects "QuotedRiver" ({ cls := "QuotedRiver", name := "fits", desc := "(I)I" } : Jvm.MethodName) ({ cls := "QuotedRiver", name := "fits", desc := "(I)I" } : Jvm.MethodName)) ∈ lw_all := lw_g (lw_at lw_m6 74 rfl) rfl
theorem q1367 : (Jvm.Cond.code ({ cls := "QuotedRiver", name := "fits", desc := "(I)I" } : Jvm.MethodName) prog_1_method_76_code (3 : Nat) (Option.some Jvm.ClassFile.FieldType.int)) ∈ lw_all := lw_g (lw_at lw_m6 75 rfl) rfl
theorem q1368 : (Jvm.Cond.methodLink "QuotedRiver" (336 : Nat) ({ cls := "QuotedRiver", name := "whyNot", desc := "(I)I" } : Jvm.MethodName)) ∈ lw_all := lw_g (lw_at lw_m6 76 rfl) rfl
theorem q1369 : (Jvm.Cond.privateMethod ({ cls := "QuotedRiver", name := "whyNot", desc := "(I)I" } : Jvm.MethodName)) ∈ lw_tbl := lw_at lw_m6 77 rfl
theorem q1370 : (Jvm.Cond.instanceMethod ({ cls := "QuotedRiver", name := "whyNot", desc := "(I)I" } : Jvm.MethodName)) ∈ lw_all := lw_g (lw_at lw_m6 78 rfl) rfl
theorem q1371 : (Jvm.Cond.code ({ cls := "QuotedRiver", name := "whyNot", desc := "(I)I" } : Jvm.MethodName) prog_1_method_74_code (4 : Nat) (Option.some Jvm.ClassFile.FieldType.int)) ∈ lw_all := lw_g (lw_at lw_m6 79 rfl) rfl
theorem q1372 : (Jvm.Cond.methodLink "QuotedRiver" (329 : Nat) ({ cls := "QuotedRiver$Slot", name := "many", desc := "()I" } : Jvm.MethodName)) ∈ lw_all := lw_g (lw_at lw_m6 80 rfl) rfl
theorem q1376 : (Jvm.Cond.methodLink "QuotedRiver" (332 : Nat) ({ cls := "QuotedRiver$Slot", name := "number", desc := "(I)J" } : Jvm.MethodName)) ∈ lw_all := lw_g (lw_at lw_m6 84 rfl) rfl
theorem q1380 : (Jvm.Cond.methodLink "QuotedRiver" (339 : Nat) ({ cls := "QuotedRiver$Seen", name := "of", desc := "(LQuotedRiver$Slot;)LQuotedRiver$Seen;" } : Jvm.MethodName)) ∈ lw_all := lw_g (lw_at lw_m6 88 rfl) rfl
theorem q1389 : (Jvm.Cond.privateMethod ({ cls := "QuotedRiver", name := "isSeen", desc := "(LQuotedRiver$Slot;)Z" } : Jvm.MethodName)) ∈ lw_tbl := lw_at lw_m6 97 rfl
theorem q1390 : (Jvm.Cond.instanceMethod ({ cls := "QuotedRiver", name := "isSeen", desc := "(LQuotedRiver$Slot;)Z" } : Jvm.MethodName)) ∈ lw_all := lw_g (lw_at lw_m6 98 rfl) rfl
theorem q1391 : (Jvm.Cond.code ({ cls := "QuotedRiver", name := "isSeen", desc := "(LQuotedRiver$Slot;)Z" } : Jvm.MethodName) prog_1_method_75_code (3 : Nat) (Option.some Jvm.ClassFile.FieldType.boolean)) ∈ lw_all := lw_g (lw_at lw_m6 99 rfl) rfl
theorem q1402 : (Jvm.Cond.instanceMethod ({ cls := "QuotedRiver", name := "sources", desc := "(I)I" } : Jvm.MethodName)) ∈ lw_all := lw_g (lw_at lw_m6 110 rfl) rfl
theorem q1403 : (Jvm.Cond.selects "QuotedRiver" ({ cls := "QuotedRiver", name := "sources", desc := "(I)I" } : Jvm.MethodName) ({ cls := "QuotedRiver", name := "sources", desc := "(I)I" } : Jvm.MethodName)) ∈ lw_all := lw_g (lw_at lw_m6 111 rfl) rfl
theorem q1404 : (Jvm.Cond.code ({ cls := "QuotedRiver", name := "sources", desc := "(I)I" } : Jvm.MethodName) prog_1_method_77_code (3 : Nat) (Option.some Jvm.ClassFile.FieldType.int)) ∈ lw_all := lw_g (lw_at lw_m6 112 rfl) rfl
theorem q1406 : (Jvm.Cond.instanceMethod ({ cls := "QuotedRiver", name := "source", desc := "(I)I" } : Jvm.MethodName)) ∈ lw_all := lw_g (lw_at lw_m6 114 rfl) rfl
theorem q1407 : (Jvm.Cond.selects "QuotedRiver" ({ cls := "QuotedRiver", name := "source", desc := "(I)I" } : Jvm.MethodName) ({ cls := "QuotedRiver", name := "source", desc := "(I)I" } : Jvm.MethodName)) ∈ lw_all := lw_g (lw_at lw_m6 115 rfl) rfl
theorem q1408 : (Jvm.Cond.code ({ cls := "QuotedRiver", name := "source", desc := "(I)I" } : Jvm.MethodName) prog_1_method_78_code (3 : Nat) (Option.some Jvm.ClassFile.FieldType.int)) ∈ lw_all := lw_g (lw_at lw_m6 116 rfl) rfl
theorem q1410 : (Jvm.Cond.instanceMethod ({ cls := "QuotedRiver", name := "ask", desc := "(I)I" } : Jvm.MethodName)) ∈ lw_all := lw_g (lw_at lw_m6 118 rfl) rfl
theorem q1411 : (Jvm.Cond.selects "QuotedRiver" ({ cls := "QuotedRiver", name := "ask", desc := "(I)I" } : Jvm.MethodName) ({ cls := "QuotedRiver", name := "ask", desc := "(I)I" } : Jvm.MethodName)) ∈ lw_all := lw_g (lw_at lw_m6 119 rfl) rfl
theorem q1412 : (Jvm.Cond.code ({ cls := "QuotedRiver", name := "ask", desc := "(I)I" } : Jvm.MethodName) prog_1_method_79_code (3 : Nat) (Option.some Jvm.ClassFile.FieldType.int)) ∈ lw_all := lw_g (lw_at lw_m6 120 rfl) rfl
theorem q1414 : (Jvm.Cond.instanceMethod ({ cls := "QuotedRiver", name := "doubts", desc := "(I)I" } : Jvm.MethodName)) ∈ lw_all := lw_g (lw_at lw_m6 122 rfl) rfl
theorem q1415 : (Jvm.Cond.selects "QuotedRiver" ({ cls := "QuotedRiver", name := "doubts", desc := "(I)I" } : Jvm.MethodName) ({ cls := "QuotedRiver", name := "doubts", desc := "(I)I" } : Jvm.MethodName)) ∈ lw_all := lw_g (lw_at lw_m6 123 rfl) rfl
theorem q1416 : (Jvm.Cond.code ({ cls := "QuotedRiver", name := "doubts", desc := "(I)I" } : Jvm.MethodName) prog_1_method_80_code (3 : Nat) (Option.some Jvm.ClassFile.FieldType.int)) ∈ lw_all := lw_g (lw_at lw_m6 124 rfl) rfl
theorem q1418 : (Jvm.Cond.instanceMethod ({ cls := "QuotedRiver", name := "turn", desc := "(III)I" } : Jvm.MethodName)) ∈ lw_all := lw_g (lw_at lw_m6 126 rfl) rfl
theorem q1419 : (Jvm.Cond.selects "QuotedRiver" ({ cls := "QuotedRiver", name := "turn", desc := "(III)I" } : Jvm.MethodName) ({ cls := "QuotedRiver", name := "turn", desc := "(III)I" } : Jvm.MethodName)) ∈ lw_all := lw_g (lw_at lw_m6 127 rfl) rfl
theorem q1420 : (Jvm.Cond.code ({ cls := "QuotedRiver", name := "turn", desc := "(III)I" } : Jvm.MethodName) prog_1_method_83_code (5 : Nat) (Option.some Jvm.ClassFile.FieldType.int)) ∈ lw_all := lw_g (lw_at lw_m6 128 rfl) rfl
theorem q1421 : (Jvm.Cond.methodLink "QuotedRiver" (367 : Nat) ({ cls := "QuotedRiver", name := "whyNotTurn", desc := "(III)I" } : Jvm.MethodName)) ∈ lw_all := lw_g (lw_at lw_m6 129 rfl) rfl
theorem q1422 : (Jvm.Cond.privateMethod ({ cls := "QuotedRiver", name := "whyNotTurn", desc := "(III)I" } : Jvm.MethodName)) ∈ lw_tbl := lw_at lw_m6 130 rfl
theorem q1423 : (Jvm.Cond.instanceMethod ({ cls := "QuotedRiver", name := "whyNotTurn", desc := "(III)I" } : Jvm.MethodName)) ∈ lw_all := lw_g (lw_at lw_m6 131 rfl) rfl
theorem q1424 : (Jvm.Cond.code ({ cls := "QuotedRiver", name := "whyNotTurn", desc := "(III)I" } : Jvm.MethodName) prog_1_method_82_code (4 : Nat) (Option.some Jvm.ClassFile.FieldType.int)) ∈ lw_all := lw_g (lw_at lw_m6 132 rfl) rfl
theorem q1425 : (Jvm.Cond.methodLink "QuotedRiver" (371 : Nat) ({ cls := "QuotedRiver", name := "turnsOf", desc := "(LQuotedRiver$Slot;II)I" } : Jvm.MethodName)) ∈ lw_all := lw_g (lw_at lw_m6 133 rfl) rfl
theorem q1426 : (Jvm.Cond.privateMethod ({ cls := "QuotedRiver", name := "turnsOf", desc := "(LQuotedRiver$Slot;II)I" } : Jvm.MethodName)) ∈ lw_tbl := lw_at lw_m6 134 rfl
theorem q1427 : (Jvm.Cond.instanceMethod ({ cls := "QuotedRiver", name := "turnsOf", desc := "(LQuotedRiver$Slot;II)I" } : Jvm.MethodName)) ∈ lw_all := lw_g (lw_at lw_m6 135 rfl) rfl
theorem q1428 : (Jvm.Cond.code ({ cls := "QuotedRiver", name := "turnsOf", desc := "(LQuotedRiver$Slot;II)I" } : Jvm.MethodName) prog_1_method_81_code (5 : Nat) (Option.some Jvm.ClassFile.FieldType.int)) ∈ lw_all := lw_g (lw_at lw_m6 136 rfl) rfl
theorem q1429 : (Jvm.Cond.methodLink "QuotedRiver" (363 : Nat) ({ cls := "QuotedRiver", name := "isSeen", desc := "(LQuotedRiver$Slot;)Z" } : Jvm.MethodName)) ∈ lw_all := lw_g (lw_at lw_m6 137 rfl) rfl
theorem q1431 : (Jvm.Cond.instanceMethod ({ cls := "QuotedRiver", name := "turned", desc := "(III)I" } : Jvm.MethodName)) ∈ lw_all := lw_g (lw_at lw_m6 139 rfl) rfl
theorem q1432 : (Jvm.Cond.selects "QuotedRiver" ({ cls := "QuotedRiver", name := "turned", desc := "(III)I" } : Jvm.MethodName) ({ cls := "QuotedRiver", name := "turned", desc := "(III)I" } : Jvm.MethodName)) ∈ lw_all := lw_g (lw_at lw_m6 140 rfl) rfl
theorem q1433 : (Jvm.Cond.code ({ cls := "QuotedRiver", name := "turned", desc := "(III)I" } : Jvm.MethodName) prog_1_method_84_code (5 : Nat) (Option.some Jvm.ClassFile.FieldType.int)) ∈ lw_all := lw_g (lw_at lw_m6 141 rfl) rfl
theorem q1435 : (Jvm.Cond.instanceMethod ({ cls := "QuotedRiver", name := "rests", desc := "()I" } : Jvm.MethodName)) ∈ lw_all := lw_g (lw_at lw_m6 143 rfl) rfl
theorem q1436 : (Jvm.Cond.selects "QuotedRiver" ({ cls := "QuotedRiver", name := "rests", desc := "()I" } : Jvm.MethodName) ({ cls := "QuotedRiver", name := "rests", desc := "()I" } : Jvm.MethodName)) ∈ lw_all := lw_g (lw_at lw_m6 144 rfl) rfl
theorem q1437 : (Jvm.Cond.code ({ cls := "QuotedRiver", name := "rests", desc := "()I" } : Jvm.MethodName) prog_1_method_87_code (4 : Nat) (Option.some Jvm.ClassFile.FieldType.int)) ∈ lw_all := lw_g (lw_at lw_m6 145 rfl) rfl
theorem q1438 : (Jvm.Cond.methodLink "QuotedRiver" (375 : Nat) ({ cls := "QuotedRiver", name := "isRest", desc := "(II)Z" } : Jvm.MethodName)) ∈ lw_all := lw_g (lw_at lw_m6 146 rfl) rfl
theorem q1439 : (Jvm.Cond.static ({ cls := "QuotedRiver", name := "isRest", desc := "(II)Z" } : Jvm.MethodName)) ∈ lw_all := lw_g (lw_at lw_m6 147 rfl) rfl
theorem q1440 : (Jvm.Cond.code ({ cls := "QuotedRiver", name := "isRest", desc := "(II)Z" } : Jvm.MethodName) prog_1_method_86_code (3 : Nat) (Option.some Jvm.ClassFile.FieldType.boolean)) ∈ lw_all := lw_g (lw_at lw_m6 148 rfl) rfl
theorem q1442 : (Jvm.Cond.instanceMethod ({ cls := "QuotedRiver", name := "rest", desc := "()I" } : Jvm.MethodName)) ∈ lw_all := lw_g (lw_at lw_m6 150 rfl) rfl
theorem q1443 : (Jvm.Cond.selects "QuotedRiver" ({ cls := "QuotedRiver", name := "rest", desc := "()I" } : Jvm.MethodName) ({ cls := "QuotedRiver", name := "rest", desc := "()I" } : Jvm.MethodName)) ∈ lw_all := lw_g (lw_at lw_m6 151 rfl) rfl
theorem q1444 : (Jvm.Cond.code ({ cls := "QuotedRiver", name := "rest", desc := "()I" } : Jvm.MethodName) prog_1_method_88_code (3 : Nat) (Option.some Jvm.ClassFile.FieldType.int)) ∈ lw_all := lw_g (lw_at lw_m6 152 rfl) rfl
theorem q1446 : (Jvm.Cond.instanceMethod ({ cls := "QuotedRiver", name := "has", desc := "(II)I" } : Jvm.MethodName)) ∈ lw_all := lw_g (lw_at lw_m6 154 rfl) rfl
theorem q1447 : (Jvm.Cond.selects "QuotedRiver" ({ cls := "QuotedRiver", name := "has", desc := "(II)I" } : Jvm.MethodName) ({ cls := "QuotedRiver", name := "has", desc := "(II)I" } : Jvm.MethodName)) ∈ lw_all := lw_g (lw_at lw_m6 155 rfl) rfl
theorem q1448 : (Jvm.Cond.code ({ cls := "QuotedRiver", name := "has", desc := "(II)I" } : Jvm.MethodName) prog_1_method_89_code (3 : Nat) (Option.some Jvm.ClassFile.FieldType.int)) ∈ lw_all := lw_g (lw_at lw_m6 156 rfl) rfl
theorem q1450 : (Jvm.Cond.instanceMethod ({ cls := "QuotedRiver", name := "treaty", desc := "()I" } : Jvm.MethodName)) ∈ lw_all := lw_g (lw_at lw_m6 158 rfl) rfl
theorem q1451 : (Jvm.Cond.selects "QuotedRiver" ({ cls := "QuotedRiver", name := "treaty", desc := "()I" } : Jvm.MethodName) ({ cls := "QuotedRiver", name := "treaty", desc := "()I" } : Jvm.MethodName)) ∈ lw_all := lw_g (lw_at lw_m6 159 rfl) rfl
theorem q1452 : (Jvm.Cond.code ({ cls := "QuotedRiver", name := "treaty", desc := "()I" } : Jvm.MethodName) prog_1_method_90_code (4 : Nat) (Option.some Jvm.ClassFile.FieldType.int)) ∈ lw_all := lw_g (lw_at lw_m6 160 rfl) rfl
theorem q1454 : (Jvm.Cond.instanceMethod ({ cls := "QuotedRiver", name := "chance", desc := "(III)J" } : Jvm.MethodName)) ∈ lw_all := lw_g (lw_at lw_m6 162 rfl) rfl
theorem q1455 : (Jvm.Cond.selects "QuotedRiver" ({ cls := "QuotedRiver", name := "chance", desc := "(III)J" } : Jvm.MethodName) ({ cls := "QuotedRiver", name := "chance", desc := "(III)J" } : Jvm.MethodName)) ∈ lw_all := lw_g (lw_at lw_m6 163 rfl) rfl
theorem q1456 : (Jvm.Cond.code ({ cls := "QuotedRiver", name := "chance", desc := "(III)J" } : Jvm.MethodName) prog_1_method_95_code (8 : Nat) (Option.some Jvm.ClassFile.FieldType.long)) ∈ lw_all := lw_g (lw_at lw_m6 164 rfl) rfl
theorem q1457 : (Jvm.Cond.constantLong "QuotedRiver" (396 : Nat) (99 : Int64)) ∈ lw_all := lw_g (lw_at lw_m6 165 rfl) rfl
theorem q1458 : (Jvm.Cond.methodLink "QuotedRiver" (398 : Nat) ({ cls := "QuotedRiver", name := "weightFrom", desc := "(I)J" } : Jvm.MethodName)) ∈ lw_all := lw_g (lw_at lw_m6 166 rfl) rfl
theorem q1459 : (Jvm.Cond.privateMethod ({ cls := "QuotedRiver", name := "weightFrom", desc := "(I)J" } : Jvm.MethodName)) ∈ lw_tbl := lw_at lw_m6 167 rfl
theorem q1460 : (Jvm.Cond.instanceMethod ({ cls := "QuotedRiver", name := "weightFrom", desc := "(I)J" } : Jvm.MethodName)) ∈ lw_all := lw_g (lw_at lw_m6 168 rfl) rfl
theorem q1461 : (Jvm.Cond.code ({ cls := "QuotedRiver", name := "weightFrom", desc := "(I)J" } : Jvm.MethodName) prog_1_method_92_code (5 : Nat) (Option.some Jvm.ClassFile.FieldType.long)) ∈ lw_all := lw_g (lw_at lw_m6 169 rfl) rfl
theorem q1463 : (Jvm.Cond.instanceMethod ({ cls := "QuotedRiver", name := "risk", desc := "(II)I" } : Jvm.MethodName)) ∈ lw_all := lw_g (lw_at lw_m6 171 rfl) rfl
theorem q1464 : (Jvm.Cond.selects "QuotedRiver" ({ cls := "QuotedRiver", name := "risk", desc := "(II)I" } : Jvm.MethodName) ({ cls := "QuotedRiver", name := "risk", desc := "(II)I" } : Jvm.MethodName)) ∈ lw_all := lw_g (lw_at lw_m6 172 rfl) rfl
theorem q1465 : (Jvm.Cond.code ({ cls := "QuotedRiver", name := "risk", desc := "(II)I" } : Jvm.MethodName) prog_1_method_96_code (6 : Nat) (Option.some Jvm.ClassFile.FieldType.int)) ∈ lw_all := lw_g (lw_at lw_m6 173 rfl) rfl
theorem q1466 : (Jvm.Cond.constantLong "QuotedRiver" (401 : Nat) (100 : Int64)) ∈ lw_all := lw_g (lw_at lw_m6 174 rfl) rfl
theorem q1468 : (Jvm.Cond.instanceMethod ({ cls := "QuotedRiver", name := "close", desc := "(II)I" } : Jvm.MethodName)) ∈ lw_all := lw_g (lw_at lw_m6 176 rfl) rfl
theorem q1469 : (Jvm.Cond.selects "QuotedRiver" ({ cls := "QuotedRiver", name := "close", desc := "(II)I" } : Jvm.MethodName) ({ cls := "QuotedRiver", name := "close", desc := "(II)I" } : Jvm.MethodName)) ∈ lw_all := lw_g (lw_at lw_m6 177 rfl) rfl
theorem q1470 : (Jvm.Cond.code ({ cls := "QuotedRiver", name := "close", desc := "(II)I" } : Jvm.MethodName) prog_1_method_98_code (3 : Nat) (Option.some Jvm.ClassFile.FieldType.int)) ∈ lw_all := lw_g (lw_at lw_m6 178 rfl) rfl
theorem q1471 : (Jvm.Cond.classLink "QuotedRiver" (410 : Nat) "QuotedRiver$Act") ∈ lw_all := lw_g (lw_at lw_m6 179 rfl) rfl
theorem q1473 : (Jvm.Cond.methodLink "QuotedRiver" (412 : Nat) ({ cls := "QuotedRiver$Act", name := "<init>", desc := "(IILQuotedRiver$Rain;)V" } : Jvm.MethodName)) ∈ lw_all := lw_g (lw_at lw_m6 181 rfl) rfl
theorem q1490 : (Jvm.Cond.methodLink "QuotedRiver" (415 : Nat) ({ cls := "QuotedRiver", name := "acts", desc := "(LQuotedRiver$Act;I)I" } : Jvm.MethodName)) ∈ lw_all := lw_g (lw_at lw_m6 198 rfl) rfl
theorem q1491 : (Jvm.Cond.privateMethod ({ cls := "QuotedRiver", name := "acts", desc := "(LQuotedRiver$Act;I)I" } : Jvm.MethodName)) ∈ lw_tbl := lw_at lw_m6 199 rfl
theorem q1492 : (Jvm.Cond.instanceMethod ({ cls := "QuotedRiver", name := "acts", desc := "(LQuotedRiver$Act;I)I" } : Jvm.MethodName)) ∈ lw_all := lw_g (lw_at lw_m6 200 rfl) rfl
theorem q1493 : (Jvm.Cond.code ({ cls := "QuotedRiver", name := "acts", desc := "(LQuotedRiver$Act;I)I" } : Jvm.MethodName) prog_1_method_97_code (3 : Nat) (Option.some Jvm.ClassFile.FieldType.int)) ∈ lw_all := lw_g (lw_at lw_m6 201 rfl) rfl
theorem q1494 : (Jvm.Cond.interfaceEntry "QuotedRiver" (406 : Nat)) ∈ lw_tbl := lw_at lw_m6 202 rfl
theorem q1495 : (Jvm.Cond.methodLink "QuotedRiver" (406 : Nat) ({ cls := "java/util/List", name := "add", desc := "(Ljava/lang/Object;)Z" } : Jvm.MethodName)) ∈ lw_all := lw_g (lw_at lw_m6 203 rfl) rfl
theorem q1497 : (Jvm.Cond.instanceMethod ({ cls := "QuotedRiver", name := "pours", desc := "(II)I" } : Jvm.MethodName)) ∈ lw_all := lw_g (lw_at lw_m6 205 rfl) rfl
theorem q1498 : (Jvm.Cond.selects "QuotedRiver" ({ cls := "QuotedRiver", name := "pours", desc := "(II)I" } : Jvm.MethodName) ({ cls := "QuotedRiver", name := "pours", desc := "(II)I" } : Jvm.MethodName)) ∈ lw_all := lw_g (lw_at lw_m6 206 rfl) rfl
theorem q1499 : (Jvm.Cond.code ({ cls := "QuotedRiver", name := "pours", desc := "(II)I" } : Jvm.MethodName) prog_1_method_99_code (3 : Nat) (Option.some Jvm.ClassFile.FieldType.int)) ∈ lw_all := lw_g (lw_at lw_m6 207 rfl) rfl
theorem q1500 : (Jvm.Cond.constantLong "QuotedRiver" (418 : Nat) (30 : Int64)) ∈ lw_all := lw_g (lw_at lw_m6 208 rfl) rfl
theorem q1501 : (Jvm.Cond.methodLink "QuotedRiver" (420 : Nat) ({ cls := "QuotedRiver$Rain", name := "<init>", desc := "(II)V" } : Jvm.MethodName)) ∈ lw_all := lw_g (lw_at lw_m6 209 rfl) rfl
theorem q1503 : (Jvm.Cond.instanceMethod ({ cls := "QuotedRiver", name := "undo", desc := "()I" } : Jvm.MethodName)) ∈ lw_all := lw_g (lw_at lw_m6 211 rfl) rfl
theorem q1504 : (Jvm.Cond.selects "QuotedRiver" ({ cls := "QuotedRiver", name := "undo", desc := "()I" } : Jvm.MethodName) ({ cls := "QuotedRiver", name := "undo", desc := "()I" } : Jvm.MethodName)) ∈ lw_all := lw_g (lw_at lw_m6 212 rfl) rfl
theorem q1505 : (Jvm.Cond.code ({ cls := "QuotedRiver", name := "undo", desc := "()I" } : Jvm.MethodName) prog_1_method_100_code (1 : Nat) (Option.some Jvm.ClassFile.FieldType.int)) ∈ lw_all := lw_g (lw_at lw_m6 213 rfl) rfl
theorem q1506 : (Jvm.Cond.interfaceEntry "QuotedRiver" (423 : Nat)) ∈ lw_tbl := lw_at lw_m6 214 rfl
theorem q1507 : (Jvm.Cond.methodLink "QuotedRiver" (423 : Nat) ({ cls := "java/util/List", name := "isEmpty", desc := "()Z" } : Jvm.MethodName)) ∈ lw_all := lw_g (lw_at lw_m6 215 rfl) rfl
theorem q1515 : (Jvm.Cond.interfaceEntry "QuotedRiver" (426 : Nat)) ∈ lw_tbl := lw_at lw_m6 223 rfl
theorem q1516 : (Jvm.Cond.methodLink "QuotedRiver" (426 : Nat) ({ cls := "java/util/List", name := "remove", desc := "(I)Ljava/lang/Object;" } : Jvm.MethodName)) ∈ lw_all := lw_g (lw_at lw_m6 224 rfl) rfl
theorem q1530 : (Jvm.Cond.instanceMethod ({ cls := "QuotedRiver", name := "anew", desc := "()I" } : Jvm.MethodName)) ∈ lw_all := lw_g (lw_at lw_m6 238 rfl) rfl
theorem q1531 : (Jvm.Cond.selects "QuotedRiver" ({ cls := "QuotedRiver", name := "anew", desc := "()I" } : Jvm.MethodName) ({ cls := "QuotedRiver", name := "anew", desc := "()I" } : Jvm.MethodName)) ∈ lw_all := lw_g (lw_at lw_m6 239 rfl) rfl
theorem q1532 : (Jvm.Cond.code ({ cls := "QuotedRiver", name := "anew", desc := "()I" } : Jvm.MethodName) prog_1_method_101_code (2 : Nat) (Option.some Jvm.ClassFile.FieldType.int)) ∈ lw_all := lw_g (lw_at lw_m7 0 rfl) rfl
theorem q1533 : (Jvm.Cond.interfaceEntry "QuotedRiver" (429 : Nat)) ∈ lw_tbl := lw_at lw_m7 1 rfl
theorem q1534 : (Jvm.Cond.methodLink "QuotedRiver" (429 : Nat) ({ cls := "java/util/List", name := "clear", desc := "()V" } : Jvm.MethodName)) ∈ lw_all := lw_g (lw_at lw_m7 2 rfl) rfl
theorem q1543 : (Jvm.Cond.instanceMethod ({ cls := "QuotedRiver", name := "drawn", desc := "(II)I" } : Jvm.MethodName)) ∈ lw_all := lw_g (lw_at lw_m7 11 rfl) rfl
theorem q1544 : (Jvm.Cond.selects "QuotedRiver" ({ cls := "QuotedRiver", name := "drawn", desc := "(II)I" } : Jvm.MethodName) ({ cls := "QuotedRiver", name := "drawn", desc := "(II)I" } : Jvm.MethodName)) ∈ lw_all := lw_g (lw_at lw_m7 12 rfl) rfl
theorem q1545 : (Jvm.Cond.code ({ cls := "QuotedRiver", name := "drawn", desc := "(II)I" } : Jvm.MethodName) prog_1_method_103_code (3 : Nat) (Option.some Jvm.ClassFile.FieldType.int)) ∈ lw_all := lw_g (lw_at lw_m7 13 rfl) rfl
theorem q1546 : (Jvm.Cond.methodLink "QuotedRiver" (434 : Nat) ({ cls := "QuotedRiver", name := "isSeed", desc := "(I)Z" } : Jvm.MethodName)) ∈ lw_all := lw_g (lw_at lw_m7 14 rfl) rfl
theorem q1547 : (Jvm.Cond.static ({ cls := "QuotedRiver", name := "isSeed", desc := "(I)Z" } : Jvm.MethodName)) ∈ lw_all := lw_g (lw_at lw_m7 15 rfl) rfl
theorem q1548 : (Jvm.Cond.code ({ cls := "QuotedRiver", name := "isSeed", desc := "(I)Z" } : Jvm.MethodName) prog_1_method_102_code (1 : Nat) (Option.some Jvm.ClassFile.FieldType.boolean)) ∈ lw_all := lw_g (lw_at lw_m7 16 rfl) rfl
theorem q1549 : (Jvm.Cond.constantLong "QuotedRiver" (432 : Nat) (2000000000 : Int64)) ∈ lw_all := lw_g (lw_at lw_m7 17 rfl) rfl
theorem q1550 : (Jvm.Cond.methodLink "QuotedRiver" (437 : Nat) ({ cls := "QuotedRiver$Water", name := "draws", desc := "(J)LQuotedRiver$Water;" } : Jvm.MethodName)) ∈ lw_all := lw_g (lw_at lw_m7 18 rfl) rfl
theorem q1561 : (Jvm.Cond.instanceMethod ({ cls := "QuotedRiver", name := "luck", desc := "(III)I" } : Jvm.MethodName)) ∈ lw_all := lw_g (lw_at lw_m7 29 rfl) rfl
theorem q1562 : (Jvm.Cond.selects "QuotedRiver" ({ cls := "QuotedRiver", name := "luck", desc := "(III)I" } : Jvm.MethodName) ({ cls := "QuotedRiver", name := "luck", desc := "(III)I" } : Jvm.MethodName)) ∈ lw_all := lw_g (lw_at lw_m7 30 rfl) rfl
theorem q1563 : (Jvm.Cond.code ({ cls := "QuotedRiver", name := "luck", desc := "(III)I" } : Jvm.MethodName) prog_1_method_104_code (6 : Nat) (Option.some Jvm.ClassFile.FieldType.int)) ∈ lw_all := lw_g (lw_at lw_m7 31 rfl) rfl
theorem q1564 : (Jvm.Cond.constantLong "QuotedRiver" (444 : Nat) (20 : Int64)) ∈ lw_all := lw_g (lw_at lw_m7 32 rfl) rfl
theorem q1566 : (Jvm.Cond.instanceMethod ({ cls := "QuotedRiver", name := "deepen", desc := "(II)I" } : Jvm.MethodName)) ∈ lw_all := lw_g (lw_at lw_m7 34 rfl) rfl
theorem q1567 : (Jvm.Cond.selects "QuotedRiver" ({ cls := "QuotedRiver", name := "deepen", desc := "(II)I" } : Jvm.MethodName) ({ cls := "QuotedRiver", name := "deepen", desc := "(II)I" } : Jvm.MethodName)) ∈ lw_all := lw_g (lw_at lw_m7 35 rfl) rfl
theorem q1568 : (Jvm.Cond.code ({ cls := "QuotedRiver", name := "deepen", desc := "(II)I" } : Jvm.MethodName) prog_1_method_105_code (4 : Nat) (Option.some Jvm.ClassFile.FieldType.int)) ∈ lw_all := lw_g (lw_at lw_m7 36 rfl) rfl
theorem q1570 : (Jvm.Cond.instanceMethod ({ cls := "QuotedRiver", name := "count", desc := "(I)I" } : Jvm.MethodName)) ∈ lw_all := lw_g (lw_at lw_m7 38 rfl) rfl
theorem q1571 : (Jvm.Cond.selects "QuotedRiver" ({ cls := "QuotedRiver", name := "count", desc := "(I)I" } : Jvm.MethodName) ({ cls := "QuotedRiver", name := "count", desc := "(I)I" } : Jvm.MethodName)) ∈ lw_all := lw_g (lw_at lw_m7 39 rfl) rfl
theorem q1572 : (Jvm.Cond.code ({ cls := "QuotedRiver", name := "count", desc := "(I)I" } : Jvm.MethodName) prog_1_method_106_code (7 : Nat) (Option.some Jvm.ClassFile.FieldType.int)) ∈ lw_all := lw_g (lw_at lw_m7 40 rfl) rfl
theorem q1574 : (Jvm.Cond.instanceMethod ({ cls := "QuotedRiver", name := "image", desc := "(I)I" } : Jvm.MethodName)) ∈ lw_all := lw_g (lw_at lw_m7 42 rfl) rfl
theorem q1575 : (Jvm.Cond.selects "QuotedRiver" ({ cls := "QuotedRiver", name := "image", desc := "(I)I" } : Jvm.MethodName) ({ cls := "QuotedRiver", name := "image", desc := "(I)I" } : Jvm.MethodName)) ∈ lw_all := lw_g (lw_at lw_m7 43 rfl) rfl
theorem q1576 : (Jvm.Cond.code ({ cls := "QuotedRiver", name := "image", desc := "(I)I" } : Jvm.MethodName) prog_1_method_107_code (2 : Nat) (Option.some Jvm.ClassFile.FieldType.int)) ∈ lw_all := lw_g (lw_at lw_m7 44 rfl) rfl
theorem q1577 : (Jvm.Cond.methodLink "QuotedRiver" (448 : Nat) ({ cls := "QuotedRiver$Rivers", name := "same", desc := "()LQuotedRiver$Rivers;" } : Jvm.MethodName)) ∈ lw_all := lw_g (lw_at lw_m7 45 rfl) rfl
theorem q1618 : (Jvm.Cond.instanceMethod ({ cls := "QuotedRiver", name := "back", desc := "(I)I" } : Jvm.MethodName)) ∈ lw_all := lw_g (lw_at lw_m7 86 rfl) rfl
theorem q1619 : (Jvm.Cond.selects "QuotedRiver" ({ cls := "QuotedRiver", name := "back", desc := "(I)I" } : Jvm.MethodName) ({ cls := "QuotedRiver", name := "back", desc := "(I)I" } : Jvm.MethodName)) ∈ lw_all := lw_g (lw_at lw_m7 87 rfl) rfl
theorem q1620 : (Jvm.Cond.code ({ cls := "QuotedRiver", name := "back", desc := "(I)I" } : Jvm.MethodName) prog_1_method_108_code (2 : Nat) (Option.some Jvm.ClassFile.FieldType.int)) ∈ lw_all := lw_g (lw_at lw_m7 88 rfl) rfl
theorem q2316 : (Jvm.Cond.castable "QuotedRiver" "java/lang/Object") ∈ lw_tbl := lw_at lw_m10 64 rfl
theorem in_X0 : ∀ w ∈ wsX00, w ∈ lw_all := lw_in wsX00 [571, 573, 575, 577, 579, 581, 583, 585, 587, 589, 591, 593, 595, 597, 599] (by decide +kernel) (by decide +kernel)
theorem q94 : (Jvm.Cond.initialized "QuotedRiver$Slot") ∈ lw_all := lw_g (lw_at lw_m1 2 rfl) rfl
theorem q140 : (Jvm.Cond.instanceMethod ({ cls := "QuotedRiver$Slot", name := "begins", desc := "(II)Z" } : Jvm.MethodName)) ∈ lw_all := lw_g (lw_at lw_m1 48 rfl) rfl
theorem q141 : (Jvm.Cond.selects "QuotedRiver$Slot" ({ cls := "QuotedRiver$Slot", name := "begins", desc := "(II)Z" } : Jvm.MethodName) ({ cls := "QuotedRiver$Slot", name := "begins", desc := "(II)Z" } : Jvm.MethodName)) ∈ lw_all := lw_g (lw_at lw_m1 49 rfl) rfl
theorem q142 : (Jvm.Cond.codeWith ({ cls := "QuotedRiver$Slot", name := "begins", desc := "(II)Z" } : Jvm.MethodName) prog_10_method_2_code (4 : Nat) (Option.some Jvm.ClassFile.FieldType.boolean) [((0 : Nat), (65 : Nat), (68 : Nat), (15 : Nat))]) ∈ lw_all := lw_g (lw_at lw_m1 50 rfl) rfl
theorem q143 : (Jvm.Cond.classLink "QuotedRiver$Slot" (15 : Nat) "java/lang/NegativeArraySizeException") ∈ lw_all := lw_g (lw_at lw_m1 51 rfl) rfl
theorem q239 : (Jvm.Cond.instanceMethod ({ cls := "QuotedRiver$Slot", name := "puts", desc := "(IJ)I" } : Jvm.MethodName)) ∈ lw_all := lw_g (lw_at lw_m1 147 rfl) rfl
theorem q240 : (Jvm.Cond.selects "QuotedRiver$Slot" ({ cls := "QuotedRiver$Slot", name := "puts", desc := "(IJ)I" } : Jvm.MethodName) ({ cls := "QuotedRiver$Slot", name := "puts", desc := "(IJ)I" } : Jvm.MethodName)) ∈ lw_all := lw_g (lw_at lw_m1 148 rfl) rfl
theorem q241 : (Jvm.Cond.codeWith ({ cls := "QuotedRiver$Slot", name := "puts", desc := "(IJ)I" } : Jvm.MethodName) prog_10_method_5_code (5 : Nat) (Option.some Jvm.ClassFile.FieldType.int) [((0 : Nat), (6 : Nat), (9 : Nat), (29 : Nat)), ((0 : Nat), (6 : Nat), (14 : Nat), (31 : Nat))]) ∈ lw_all := lw_g (lw_at lw_m1 149 rfl) rfl
theorem q242 : (Jvm.Cond.classLink "QuotedRiver$Slot" (29 : Nat) "java/lang/NullPointerException") ∈ lw_all := lw_g (lw_at lw_m1 150 rfl) rfl
theorem q267 : (Jvm.Cond.classLink "QuotedRiver$Slot" (31 : Nat) "java/lang/ArrayIndexOutOfBoundsException") ∈ lw_all := lw_g (lw_at lw_m1 175 rfl) rfl
theorem q286 : (Jvm.Cond.methodLink "QuotedRiver$Slot" (25 : Nat) ({ cls := "QuotedRiver$Slot", name := "put", desc := "(IJ)V" } : Jvm.MethodName)) ∈ lw_all := lw_g (lw_at lw_m1 194 rfl) rfl
theorem q287 : (Jvm.Cond.privateMethod ({ cls := "QuotedRiver$Slot", name := "put", desc := "(IJ)V" } : Jvm.MethodName)) ∈ lw_tbl := lw_at lw_m1 195 rfl
theorem q288 : (Jvm.Cond.instanceMethod ({ cls := "QuotedRiver$Slot", name := "put", desc := "(IJ)V" } : Jvm.MethodName)) ∈ lw_all := lw_g (lw_at lw_m1 196 rfl) rfl
theorem q289 : (Jvm.Cond.instantiable "QuotedRiver$Slot" (1 : Nat)) ∈ lw_all := lw_g (lw_at lw_m1 197 rfl) rfl
theorem q290 : (Jvm.Cond.code ({ cls := "QuotedRiver$Slot", name := "put", desc := "(IJ)V" } : Jvm.MethodName) prog_10_method_6_code (5 : Nat) (Option.none : Option Jvm.ClassFile.FieldType)) ∈ lw_all := lw_g (lw_at lw_m1 198 rfl) rfl
theorem q291 : (Jvm.Cond.classLink "QuotedRiver$Slot" (17 : Nat) "[B") ∈ lw_all := lw_g (lw_at lw_m1 199 rfl) rfl
theorem q292 : (Jvm.Cond.classLink "QuotedRiver$Slot" (19 : Nat) "[S") ∈ lw_all := lw_g (lw_at lw_m1 200 rfl) rfl
theorem q293 : (Jvm.Cond.methodLink "QuotedRiver$Slot" (33 : Nat) ({ cls := "QuotedRiver$Slot", name := "putWider", desc := "(IJ)V" } : Jvm.MethodName)) ∈ lw_all := lw_g (lw_at lw_m1 201 rfl) rfl
theorem q294 : (Jvm.Cond.privateMethod ({ cls := "QuotedRiver$Slot", name := "putWider", desc := "(IJ)V" } : Jvm.MethodName)) ∈ lw_tbl := lw_at lw_m1 202 rfl
theorem q295 : (Jvm.Cond.instanceMethod ({ cls := "QuotedRiver$Slot", name := "putWider", desc := "(IJ)V" } : Jvm.MethodName)) ∈ lw_all := lw_g (lw_at lw_m1 203 rfl) rfl
theorem q296 : (Jvm.Cond.codeWith ({ cls := "QuotedRiver$Slot", name := "putWider", desc := "(IJ)V" } : Jvm.MethodName) prog_10_method_7_code (6 : Nat) (Option.none : Option Jvm.ClassFile.FieldType) [((0 : Nat), (15 : Nat), (18 : Nat), (36 : Nat))]) ∈ lw_all := lw_g (lw_at lw_m1 204 rfl) rfl
theorem q297 : (Jvm.Cond.classLink "QuotedRiver$Slot" (36 : Nat) "java/lang/ClassCastException") ∈ lw_all := lw_g (lw_at lw_m1 205 rfl) rfl
theorem q311 : (Jvm.Cond.classLink "QuotedRiver$Slot" (21 : Nat) "[I") ∈ lw_all := lw_g (lw_at lw_m1 219 rfl) rfl
theorem q312 : (Jvm.Cond.classLink "QuotedRiver$Slot" (23 : Nat) "[J") ∈ lw_all := lw_g (lw_at lw_m1 220 rfl) rfl
theorem q318 : (Jvm.Cond.instanceMethod ({ cls := "QuotedRiver$Slot", name := "pastes", desc := "(ILQuotedRiver$Slot;II)I" } : Jvm.MethodName)) ∈ lw_all := lw_g (lw_at lw_m1 226 rfl) rfl
theorem q319 : (Jvm.Cond.selects "QuotedRiver$Slot" ({ cls := "QuotedRiver$Slot", name := "pastes", desc := "(ILQuotedRiver$Slot;II)I" } : Jvm.MethodName) ({ cls := "QuotedRiver$Slot", name := "pastes", desc := "(ILQuotedRiver$Slot;II)I" } : Jvm.MethodName)) ∈ lw_all := lw_g (lw_at lw_m1 227 rfl) rfl
theorem q320 : (Jvm.Cond.codeWith ({ cls := "QuotedRiver$Slot", name := "pastes", desc := "(ILQuotedRiver$Slot;II)I" } : Jvm.MethodName) prog_10_method_9_code (6 : Nat) (Option.some Jvm.ClassFile.FieldType.int) [((31 : Nat), (46 : Nat), (49 : Nat), (48 : Nat))]) ∈ lw_all := lw_g (lw_at lw_m1 228 rfl) rfl
theorem q321 : (Jvm.Cond.classLink "QuotedRiver$Slot" (48 : Nat) "java/lang/IndexOutOfBoundsException") ∈ lw_all := lw_g (lw_at lw_m1 229 rfl) rfl
theorem q322 : (Jvm.Cond.methodLink "QuotedRiver$Slot" (38 : Nat) ({ cls := "QuotedRiver$Slot", name := "width", desc := "()I" } : Jvm.MethodName)) ∈ lw_all := lw_g (lw_at lw_m1 230 rfl) rfl
theorem q323 : (Jvm.Cond.privateMethod ({ cls := "QuotedRiver$Slot", name := "width", desc := "()I" } : Jvm.MethodName)) ∈ lw_tbl := lw_at lw_m1 231 rfl
theorem q324 : (Jvm.Cond.instanceMethod ({ cls := "QuotedRiver$Slot", name := "width", desc := "()I" } : Jvm.MethodName)) ∈ lw_all := lw_g (lw_at lw_m1 232 rfl) rfl
theorem q325 : (Jvm.Cond.code ({ cls := "QuotedRiver$Slot", name := "width", desc := "()I" } : Jvm.MethodName) prog_10_method_8_code (1 : Nat) (Option.some Jvm.ClassFile.FieldType.int)) ∈ lw_all := lw_g (lw_at lw_m1 233 rfl) rfl
theorem q326 : (Jvm.Cond.methodLink "QuotedRiver$Slot" (42 : Nat) ({ cls := "java/lang/System", name := "arraycopy", desc := "(Ljava/lang/Object;ILjava/lang/Object;II)V" } : Jvm.MethodName)) ∈ lw_all := lw_g (lw_at lw_m1 234 rfl) rfl
theorem q338 : (Jvm.Cond.instanceMethod ({ cls := "QuotedRiver$Slot", name := "<init>", desc := "()V" } : Jvm.MethodName)) ∈ lw_all := lw_g (lw_at lw_m2 6 rfl) rfl
theorem q339 : (Jvm.Cond.code ({ cls := "QuotedRiver$Slot", name := "<init>", desc := "()V" } : Jvm.MethodName) prog_10_method_1_code (1 : Nat) (Option.none : Option Jvm.ClassFile.FieldType)) ∈ lw_all := lw_g (lw_at lw_m2 7 rfl) rfl
theorem q340 : (Jvm.Cond.methodLink "QuotedRiver$Slot" (3 : Nat) ({ cls := "java/lang/Object", name := "<init>", desc := "()V" } : Jvm.MethodName)) ∈ lw_all := lw_g (lw_at lw_m2 8 rfl) rfl
theorem q341 : (Jvm.Cond.fieldLink "QuotedRiver$Slot" (9 : Nat) "QuotedRiver$Slot" "held" "Ljava/lang/Object;") ∈ lw_all := lw_g (lw_at lw_m2 9 rfl) rfl
theorem q343 : (Jvm.Cond.lays "QuotedRiver$Slot" "QuotedRiver$Slot" "held" "Ljava/lang/Object;") ∈ lw_all := lw_g (lw_at lw_m2 11 rfl) rfl
theorem q344 : (Jvm.Cond.soleField "QuotedRiver$Slot" "held") ∈ lw_all := lw_g (lw_at lw_m2 12 rfl) rfl
theorem q345 : (Jvm.Cond.superclass "QuotedRiver$Slot" "java/lang/Object") ∈ lw_all := lw_g (lw_at lw_m2 13 rfl) rfl
theorem q871 : (Jvm.Cond.selects "QuotedRiver$Slot" ({ cls := "java/lang/Object", name := "getClass", desc := "()Ljava/lang/Class;" } : Jvm.MethodName) ({ cls := "java/lang/Object", name := "getClass", desc := "()Ljava/lang/Class;" } : Jvm.MethodName)) ∈ lw_all := lw_g (lw_at lw_m4 59 rfl) rfl
theorem q1373 : (Jvm.Cond.instanceMethod ({ cls := "QuotedRiver$Slot", name := "many", desc := "()I" } : Jvm.MethodName)) ∈ lw_all := lw_g (lw_at lw_m6 81 rfl) rfl
theorem q1374 : (Jvm.Cond.selects "QuotedRiver$Slot" ({ cls := "QuotedRiver$Slot", name := "many", desc := "()I" } : Jvm.MethodName) ({ cls := "QuotedRiver$Slot", name := "many", desc := "()I" } : Jvm.MethodName)) ∈ lw_all := lw_g (lw_at lw_m6 82 rfl) rfl
theorem q1375 : (Jvm.Cond.code ({ cls := "QuotedRiver$Slot", name := "many", desc := "()I" } : Jvm.MethodName) prog_10_method_3_code (1 : Nat) (Option.some Jvm.ClassFile.FieldType.int)) ∈ lw_all := lw_g (lw_at lw_m6 83 rfl) rfl
theorem q1377 : (Jvm.Cond.instanceMethod ({ cls := "QuotedRiver$Slot", name := "number", desc := "(I)J" } : Jvm.MethodName)) ∈ lw_all := lw_g (lw_at lw_m6 85 rfl) rfl
theorem q1378 : (Jvm.Cond.selects "QuotedRiver$Slot" ({ cls := "QuotedRiver$Slot", name := "number", desc := "(I)J" } : Jvm.MethodName) ({ cls := "QuotedRiver$Slot", name := "number", desc := "(I)J" } : Jvm.MethodName)) ∈ lw_all := lw_g (lw_at lw_m6 86 rfl) rfl
theorem q1379 : (Jvm.Cond.code ({ cls := "QuotedRiver$Slot", name := "number", desc := "(I)J" } : Jvm.MethodName) prog_10_method_4_code (2 : Nat) (Option.some Jvm.ClassFile.FieldType.long)) ∈ lw_all := lw_g (lw_at lw_m6 87 rfl) rfl
theorem q2314 : (Jvm.Cond.castable "QuotedRiver$Slot" "java/lang/Object") ∈ lw_tbl := lw_at lw_m10 62 rfl
theorem in_X1 : ∀ w ∈ wsX10, w ∈ lw_all := lw_in wsX10 [343] (by decide +kernel) (by decide +kernel)
theorem q117 : (Jvm.Cond.initialized "QuotedRiver$Join") ∈ lw_all := lw_g (lw_at lw_m1 25 rfl) rfl
theorem q865 : (Jvm.Cond.selects "QuotedRiver$Join" ({ cls := "java/lang/Object", name := "getClass", desc := "()Ljava/lang/Class;" } : Jvm.MethodName) ({ cls := "java/lang/Object", name := "getClass", desc := "()Ljava/lang/Class;" } : Jvm.MethodName)) ∈ lw_all := lw_g (lw_at lw_m4 53 rfl) rfl
theorem q896 : (Jvm.Cond.instantiable "QuotedRiver$Join" (4 : Nat)) ∈ lw_all := lw_g (lw_at lw_m4 84 rfl) rfl
theorem q898 : (Jvm.Cond.instanceMethod ({ cls := "QuotedRiver$Join", name := "<init>", desc := "()V" } : Jvm.MethodName)) ∈ lw_all := lw_g (lw_at lw_m4 86 rfl) rfl
theorem q899 : (Jvm.Cond.code ({ cls := "QuotedRiver$Join", name := "<init>", desc := "()V" } : Jvm.MethodName) prog_4_method_1_code (1 : Nat) (Option.none : Option Jvm.ClassFile.FieldType)) ∈ lw_all := lw_g (lw_at lw_m4 87 rfl) rfl
theorem q900 : (Jvm.Cond.methodLink "QuotedRiver$Join" (1 : Nat) ({ cls := "java/lang/Object", name := "<init>", desc := "()V" } : Jvm.MethodName)) ∈ lw_all := lw_g (lw_at lw_m4 88 rfl) rfl
theorem q913 : (Jvm.Cond.lays "QuotedRiver$Join" "QuotedRiver$Join" "from" "I") ∈ lw_all := lw_g (lw_at lw_m4 101 rfl) rfl
theorem q914 : (Jvm.Cond.soleField "QuotedRiver$Join" "from") ∈ lw_all := lw_g (lw_at lw_m4 102 rfl) rfl
theorem q915 : (Jvm.Cond.lays "QuotedRiver$Join" "QuotedRiver$Join" "to" "I") ∈ lw_all := lw_g (lw_at lw_m4 103 rfl) rfl
theorem q916 : (Jvm.Cond.soleField "QuotedRiver$Join" "to") ∈ lw_all := lw_g (lw_at lw_m4 104 rfl) rfl
theorem q917 : (Jvm.Cond.lays "QuotedRiver$Join" "QuotedRiver$Join" "each" "I") ∈ lw_all := lw_g (lw_at lw_m4 105 rfl) rfl
theorem q918 : (Jvm.Cond.soleField "QuotedRiver$Join" "each") ∈ lw_all := lw_g (lw_at lw_m4 106 rfl) rfl
theorem q919 : (Jvm.Cond.lays "QuotedRiver$Join" "QuotedRiver$Join" "at" "I") ∈ lw_all := lw_g (lw_at lw_m4 107 rfl) rfl
theorem q920 : (Jvm.Cond.soleField "QuotedRiver$Join" "at") ∈ lw_all := lw_g (lw_at lw_m4 108 rfl) rfl
theorem q921 : (Jvm.Cond.superclass "QuotedRiver$Join" "java/lang/Object") ∈ lw_all := lw_g (lw_at lw_m4 109 rfl) rfl
theorem q2325 : (Jvm.Cond.castable "QuotedRiver$Join" "java/lang/Object") ∈ lw_tbl := lw_at lw_m10 73 rfl
theorem in_X10 : ∀ w ∈ wsX100, w ∈ lw_all := lw_in wsX100 [913, 915, 917, 919] (by decide +kernel) (by decide +kernel)
theorem q118 : (Jvm.Cond.initialized "QuotedRiver$Rain") ∈ lw_all := lw_g (lw_at lw_m1 26 rfl) rfl
theorem q866 : (Jvm.Cond.selects "QuotedRiver$Rain" ({ cls := "java/lang/Object", name := "getClass", desc := "()Ljava/lang/Class;" } : Jvm.MethodName) ({ cls := "java/lang/Object", name := "getClass", desc := "()Ljava/lang/Class;" } : Jvm.MethodName)) ∈ lw_all := lw_g (lw_at lw_m4 54 rfl) rfl
theorem q930 : (Jvm.Cond.instantiable "QuotedRiver$Rain" (2 : Nat)) ∈ lw_all := lw_g (lw_at lw_m4 118 rfl) rfl
theorem q932 : (Jvm.Cond.instanceMethod ({ cls := "QuotedRiver$Rain", name := "<init>", desc := "(II)V" } : Jvm.MethodName)) ∈ lw_all := lw_g (lw_at lw_m4 120 rfl) rfl
theorem q933 : (Jvm.Cond.code ({ cls := "QuotedRiver$Rain", name := "<init>", desc := "(II)V" } : Jvm.MethodName) prog_5_method_1_code (3 : Nat) (Option.none : Option Jvm.ClassFile.FieldType)) ∈ lw_all := lw_g (lw_at lw_m4 121 rfl) rfl
theorem q934 : (Jvm.Cond.methodLink "QuotedRiver$Rain" (1 : Nat) ({ cls := "java/lang/Object", name := "<init>", desc := "()V" } : Jvm.MethodName)) ∈ lw_all := lw_g (lw_at lw_m4 122 rfl) rfl
theorem q935 : (Jvm.Cond.fieldLink "QuotedRiver$Rain" (7 : Nat) "QuotedRiver$Rain" "n" "I") ∈ lw_all := lw_g (lw_at lw_m4 123 rfl) rfl
theorem q938 : (Jvm.Cond.fieldLink "QuotedRiver$Rain" (13 : Nat) "QuotedRiver$Rain" "step" "I") ∈ lw_all := lw_g (lw_at lw_m4 126 rfl) rfl
theorem q941 : (Jvm.Cond.laysFinal "QuotedRiver$Rain" "QuotedRiver$Rain" "n" "I") ∈ lw_all := lw_g (lw_at lw_m4 129 rfl) rfl
theorem q942 : (Jvm.Cond.soleField "QuotedRiver$Rain" "n") ∈ lw_all := lw_g (lw_at lw_m4 130 rfl) rfl
theorem q943 : (Jvm.Cond.laysFinal "QuotedRiver$Rain" "QuotedRiver$Rain" "step" "I") ∈ lw_all := lw_g (lw_at lw_m4 131 rfl) rfl
theorem q944 : (Jvm.Cond.soleField "QuotedRiver$Rain" "step") ∈ lw_all := lw_g (lw_at lw_m4 132 rfl) rfl
theorem q945 : (Jvm.Cond.superclass "QuotedRiver$Rain" "java/lang/Object") ∈ lw_all := lw_g (lw_at lw_m4 133 rfl) rfl
theorem q2326 : (Jvm.Cond.castable "QuotedRiver$Rain" "java/lang/Object") ∈ lw_tbl := lw_at lw_m10 74 rfl
theorem in_X11 : ∀ w ∈ wsX110, w ∈ lw_all := lw_in wsX110 [941, 943] (by decide +kernel) (by decide +kernel)
theorem q122 : (Jvm.Cond.initialized "QuotedRiver$Act") ∈ lw_all := lw_g (lw_at lw_m1 30 rfl) rfl
theorem q863 : (Jvm.Cond.selects "QuotedRiver$Act" ({ cls := "java/lang/Object", name := "getClass", desc := "()Ljava/lang/Class;" } : Jvm.MethodName) ({ cls := "java/lang/Object", name := "getClass", desc := "()Ljava/lang/Class;" } : Jvm.MethodName)) ∈ lw_all := lw_g (lw_at lw_m4 51 rfl) rfl
theorem q1472 : (Jvm.Cond.instantiable "QuotedRiver$Act" (3 : Nat)) ∈ lw_all := lw_g (lw_at lw_m6 180 rfl) rfl
theorem q1474 : (Jvm.Cond.instanceMethod ({ cls := "QuotedRiver$Act", name := "<init>", desc := "(IILQuotedRiver$Rain;)V" } : Jvm.MethodName)) ∈ lw_all := lw_g (lw_at lw_m6 182 rfl) rfl
theorem q1475 : (Jvm.Cond.code ({ cls := "QuotedRiver$Act", name := "<init>", desc := "(IILQuotedRiver$Rain;)V" } : Jvm.MethodName) prog_2_method_1_code (4 : Nat) (Option.none : Option Jvm.ClassFile.FieldType)) ∈ lw_all := lw_g (lw_at lw_m6 183 rfl) rfl
theorem q1476 : (Jvm.Cond.methodLink "QuotedRiver$Act" (1 : Nat) ({ cls := "java/lang/Object", name := "<init>", desc := "()V" } : Jvm.MethodName)) ∈ lw_all := lw_g (lw_at lw_m6 184 rfl) rfl
theorem q1477 : (Jvm.Cond.fieldLink "QuotedRiver$Act" (7 : Nat) "QuotedRiver$Act" "join" "I") ∈ lw_all := lw_g (lw_at lw_m6 185 rfl) rfl
theorem q1479 : (Jvm.Cond.fieldLink "QuotedRiver$Act" (13 : Nat) "QuotedRiver$Act" "on" "I") ∈ lw_all := lw_g (lw_at lw_m6 187 rfl) rfl
theorem q1481 : (Jvm.Cond.fieldLink "QuotedRiver$Act" (16 : Nat) "QuotedRiver$Act" "rain" "LQuotedRiver$Rain;") ∈ lw_all := lw_g (lw_at lw_m6 189 rfl) rfl
theorem q1483 : (Jvm.Cond.laysFinal "QuotedRiver$Act" "QuotedRiver$Act" "join" "I") ∈ lw_all := lw_g (lw_at lw_m6 191 rfl) rfl
theorem q1484 : (Jvm.Cond.soleField "QuotedRiver$Act" "join") ∈ lw_all := lw_g (lw_at lw_m6 192 rfl) rfl
theorem q1485 : (Jvm.Cond.laysFinal "QuotedRiver$Act" "QuotedRiver$Act" "on" "I") ∈ lw_all := lw_g (lw_at lw_m6 193 rfl) rfl
theorem q1486 : (Jvm.Cond.soleField "QuotedRiver$Act" "on") ∈ lw_all := lw_g (lw_at lw_m6 194 rfl) rfl
theorem q1487 : (Jvm.Cond.laysFinal "QuotedRiver$Act" "QuotedRiver$Act" "rain" "LQuotedRiver$Rain;") ∈ lw_all := lw_g (lw_at lw_m6 195 rfl) rfl
theorem q1488 : (Jvm.Cond.soleField "QuotedRiver$Act" "rain") ∈ lw_all := lw_g (lw_at lw_m6 196 rfl) rfl
theorem q1489 : (Jvm.Cond.superclass "QuotedRiver$Act" "java/lang/Object") ∈ lw_all := lw_g (lw_at lw_m6 197 rfl) rfl
theorem q2328 : (Jvm.Cond.castable "QuotedRiver$Act" "java/lang/Object") ∈ lw_tbl := lw_at lw_m10 76 rfl
theorem in_X12 : ∀ w ∈ wsX120, w ∈ lw_all := lw_in wsX120 [1483, 1485, 1487] (by decide +kernel) (by decide +kernel)
theorem q95 : (Jvm.Cond.initialized "QuotedRiver$Rivers") ∈ lw_all := lw_g (lw_at lw_m1 3 rfl) rfl
theorem q347 : (Jvm.Cond.instantiable "QuotedRiver$Rivers" (8 : Nat)) ∈ lw_all := lw_g (lw_at lw_m2 15 rfl) rfl
theorem q349 : (Jvm.Cond.instanceMethod ({ cls := "QuotedRiver$Rivers", name := "<init>", desc := "()V" } : Jvm.MethodName)) ∈ lw_all := lw_g (lw_at lw_m2 17 rfl) rfl
theorem q350 : (Jvm.Cond.code ({ cls := "QuotedRiver$Rivers", name := "<init>", desc := "()V" } : Jvm.MethodName) prog_8_method_1_code (1 : Nat) (Option.none : Option Jvm.ClassFile.FieldType)) ∈ lw_all := lw_g (lw_at lw_m2 18 rfl) rfl
theorem q351 : (Jvm.Cond.methodLink "QuotedRiver$Rivers" (3 : Nat) ({ cls := "java/lang/Object", name := "<init>", desc := "()V" } : Jvm.MethodName)) ∈ lw_all := lw_g (lw_at lw_m2 19 rfl) rfl
theorem q352 : (Jvm.Cond.classLink "QuotedRiver$Rivers" (9 : Nat) "java/util/ArrayList") ∈ lw_all := lw_g (lw_at lw_m2 20 rfl) rfl
theorem q354 : (Jvm.Cond.methodLink "QuotedRiver$Rivers" (11 : Nat) ({ cls := "java/util/ArrayList", name := "<init>", desc := "(I)V" } : Jvm.MethodName)) ∈ lw_all := lw_g (lw_at lw_m2 22 rfl) rfl
theorem q383 : (Jvm.Cond.methodLink "QuotedRiver$Rivers" (26 : Nat) ({ cls := "java/util/ArrayList", name := "<init>", desc := "()V" } : Jvm.MethodName)) ∈ lw_all := lw_g (lw_at lw_m2 51 rfl) rfl
theorem q388 : (Jvm.Cond.fieldLink "QuotedRiver$Rivers" (14 : Nat) "QuotedRiver$Rivers" "reaches" "Ljava/util/List;") ∈ lw_all := lw_g (lw_at lw_m2 56 rfl) rfl
theorem q391 : (Jvm.Cond.fieldLink "QuotedRiver$Rivers" (20 : Nat) "QuotedRiver$Rivers" "joins" "Ljava/util/List;") ∈ lw_all := lw_g (lw_at lw_m2 59 rfl) rfl
theorem q395 : (Jvm.Cond.fieldLink "QuotedRiver$Rivers" (23 : Nat) "QuotedRiver$Rivers" "rains" "Ljava/util/List;") ∈ lw_all := lw_g (lw_at lw_m2 63 rfl) rfl
theorem q399 : (Jvm.Cond.fieldLink "QuotedRiver$Rivers" (27 : Nat) "QuotedRiver$Rivers" "acts" "Ljava/util/List;") ∈ lw_all := lw_g (lw_at lw_m2 67 rfl) rfl
theorem q402 : (Jvm.Cond.fieldLink "QuotedRiver$Rivers" (65 : Nat) "QuotedRiver$Rivers" "level" "I") ∈ lw_all := lw_g (lw_at lw_m2 70 rfl) rfl
theorem q406 : (Jvm.Cond.fieldLink "QuotedRiver$Rivers" (68 : Nat) "QuotedRiver$Rivers" "odds" "I") ∈ lw_all := lw_g (lw_at lw_m2 74 rfl) rfl
theorem q410 : (Jvm.Cond.fieldLink "QuotedRiver$Rivers" (71 : Nat) "QuotedRiver$Rivers" "swell" "I") ∈ lw_all := lw_g (lw_at lw_m2 78 rfl) rfl
theorem q414 : (Jvm.Cond.fieldLink "QuotedRiver$Rivers" (30 : Nat) "QuotedRiver$Rivers" "lines" "I") ∈ lw_all := lw_g (lw_at lw_m2 82 rfl) rfl
theorem q417 : (Jvm.Cond.laysFinal "QuotedRiver$Rivers" "QuotedRiver$Rivers" "reaches" "Ljava/util/List;") ∈ lw_all := lw_g (lw_at lw_m2 85 rfl) rfl
theorem q418 : (Jvm.Cond.soleField "QuotedRiver$Rivers" "reaches") ∈ lw_all := lw_g (lw_at lw_m2 86 rfl) rfl
theorem q419 : (Jvm.Cond.laysFinal "QuotedRiver$Rivers" "QuotedRiver$Rivers" "joins" "Ljava/util/List;") ∈ lw_all := lw_g (lw_at lw_m2 87 rfl) rfl
theorem q420 : (Jvm.Cond.soleField "QuotedRiver$Rivers" "joins") ∈ lw_all := lw_g (lw_at lw_m2 88 rfl) rfl
theorem q421 : (Jvm.Cond.laysFinal "QuotedRiver$Rivers" "QuotedRiver$Rivers" "rains" "Ljava/util/List;") ∈ lw_all := lw_g (lw_at lw_m2 89 rfl) rfl
theorem q422 : (Jvm.Cond.soleField "QuotedRiver$Rivers" "rains") ∈ lw_all := lw_g (lw_at lw_m2 90 rfl) rfl
theorem q423 : (Jvm.Cond.laysFinal "QuotedRiver$Rivers" "QuotedRiver$Rivers" "acts" "Ljava/util/List;") ∈ lw_all := lw_g (lw_at lw_m2 91 rfl) rfl
theorem q424 : (Jvm.Cond.soleField "QuotedRiver$Rivers" "acts") ∈ lw_all := lw_g (lw_at lw_m2 92 rfl) rfl
theorem q425 : (Jvm.Cond.lays "QuotedRiver$Rivers" "QuotedRiver$Rivers" "level" "I") ∈ lw_all := lw_g (lw_at lw_m2 93 rfl) rfl
theorem q426 : (Jvm.Cond.soleField "QuotedRiver$Rivers" "level") ∈ lw_all := lw_g (lw_at lw_m2 94 rfl) rfl
theorem q427 : (Jvm.Cond.lays "QuotedRiver$Rivers" "QuotedRiver$Rivers" "odds" "I") ∈ lw_all := lw_g (lw_at lw_m2 95 rfl) rfl
theorem q428 : (Jvm.Cond.soleField "QuotedRiver$Rivers" "odds") ∈ lw_all := lw_g (lw_at lw_m2 96 rfl) rfl
theorem q429 : (Jvm.Cond.lays "QuotedRiver$Rivers" "QuotedRiver$Rivers" "swell" "I") ∈ lw_all := lw_g (lw_at lw_m2 97 rfl) rfl
theorem q430 : (Jvm.Cond.soleField "QuotedRiver$Rivers" "swell") ∈ lw_all := lw_g (lw_at lw_m2 98 rfl) rfl
theorem q431 : (Jvm.Cond.lays "QuotedRiver$Rivers" "QuotedRiver$Rivers" "lines" "I") ∈ lw_all := lw_g (lw_at lw_m2 99 rfl) rfl
theorem q432 : (Jvm.Cond.soleField "QuotedRiver$Rivers" "lines") ∈ lw_all := lw_g (lw_at lw_m2 100 rfl) rfl
theorem q433 : (Jvm.Cond.superclass "QuotedRiver$Rivers" "java/lang/Object") ∈ lw_all := lw_g (lw_at lw_m2 101 rfl) rfl
theorem q869 : (Jvm.Cond.selects "QuotedRiver$Rivers" ({ cls := "java/lang/Object", name := "getClass", desc := "()Ljava/lang/Class;" } : Jvm.MethodName) ({ cls := "java/lang/Object", name := "getClass", desc := "()Ljava/lang/Class;" } : Jvm.MethodName)) ∈ lw_all := lw_g (lw_at lw_m4 57 rfl) rfl
theorem q998 : (Jvm.Cond.instanceMethod ({ cls := "QuotedRiver$Rivers", name := "is", desc := "()Z" } : Jvm.MethodName)) ∈ lw_all := lw_g (lw_at lw_m4 186 rfl) rfl
theorem q999 : (Jvm.Cond.selects "QuotedRiver$Rivers" ({ cls := "QuotedRiver$Rivers", name := "is", desc := "()Z" } : Jvm.MethodName) ({ cls := "QuotedRiver$Rivers", name := "is", desc := "()Z" } : Jvm.MethodName)) ∈ lw_all := lw_g (lw_at lw_m4 187 rfl) rfl
theorem q1000 : (Jvm.Cond.code ({ cls := "QuotedRiver$Rivers", name := "is", desc := "()Z" } : Jvm.MethodName) prog_8_method_2_code (1 : Nat) (Option.some Jvm.ClassFile.FieldType.boolean)) ∈ lw_all := lw_g (lw_at lw_m4 188 rfl) rfl
theorem q1578 : (Jvm.Cond.instanceMethod ({ cls := "QuotedRiver$Rivers", name := "same", desc := "()LQuotedRiver$Rivers;" } : Jvm.MethodName)) ∈ lw_all := lw_g (lw_at lw_m7 46 rfl) rfl
theorem q1579 : (Jvm.Cond.selects "QuotedRiver$Rivers" ({ cls := "QuotedRiver$Rivers", name := "same", desc := "()LQuotedRiver$Rivers;" } : Jvm.MethodName) ({ cls := "QuotedRiver$Rivers", name := "same", desc := "()LQuotedRiver$Rivers;" } : Jvm.MethodName)) ∈ lw_all := lw_g (lw_at lw_m7 47 rfl) rfl
theorem q1580 : (Jvm.Cond.code ({ cls := "QuotedRiver$Rivers", name := "same", desc := "()LQuotedRiver$Rivers;" } : Jvm.MethodName) prog_8_method_3_code (4 : Nat) (Option.some (Jvm.ClassFile.FieldType.object "QuotedRiver$Rivers"))) ∈ lw_all := lw_g (lw_at lw_m7 48 rfl) rfl
theorem q1581 : (Jvm.Cond.classLink "QuotedRiver$Rivers" (15 : Nat) "QuotedRiver$Rivers") ∈ lw_all := lw_g (lw_at lw_m7 49 rfl) rfl
theorem q1582 : (Jvm.Cond.methodLink "QuotedRiver$Rivers" (34 : Nat) ({ cls := "QuotedRiver$Rivers", name := "<init>", desc := "()V" } : Jvm.MethodName)) ∈ lw_all := lw_g (lw_at lw_m7 50 rfl) rfl
theorem q1583 : (Jvm.Cond.interfaceEntry "QuotedRiver$Rivers" (35 : Nat)) ∈ lw_tbl := lw_at lw_m7 51 rfl
theorem q1584 : (Jvm.Cond.methodLink "QuotedRiver$Rivers" (35 : Nat) ({ cls := "java/util/List", name := "iterator", desc := "()Ljava/util/Iterator;" } : Jvm.MethodName)) ∈ lw_all := lw_g (lw_at lw_m7 52 rfl) rfl
theorem q1585 : (Jvm.Cond.interfaceEntry "QuotedRiver$Rivers" (41 : Nat)) ∈ lw_tbl := lw_at lw_m7 53 rfl
theorem q1586 : (Jvm.Cond.methodLink "QuotedRiver$Rivers" (41 : Nat) ({ cls := "java/util/Iterator", name := "hasNext", desc := "()Z" } : Jvm.MethodName)) ∈ lw_all := lw_g (lw_at lw_m7 54 rfl) rfl
theorem q1587 : (Jvm.Cond.interfaceEntry "QuotedRiver$Rivers" (47 : Nat)) ∈ lw_tbl := lw_at lw_m7 55 rfl
theorem q1588 : (Jvm.Cond.methodLink "QuotedRiver$Rivers" (47 : Nat) ({ cls := "java/util/Iterator", name := "next", desc := "()Ljava/lang/Object;" } : Jvm.MethodName)) ∈ lw_all := lw_g (lw_at lw_m7 56 rfl) rfl
theorem q1589 : (Jvm.Cond.classLink "QuotedRiver$Rivers" (51 : Nat) "QuotedRiver$Reach") ∈ lw_all := lw_g (lw_at lw_m7 57 rfl) rfl
theorem q1590 : (Jvm.Cond.methodLink "QuotedRiver$Rivers" (53 : Nat) ({ cls := "QuotedRiver$Reach", name := "same", desc := "()LQuotedRiver$Reach;" } : Jvm.MethodName)) ∈ lw_all := lw_g (lw_at lw_m7 58 rfl) rfl
theorem q1596 : (Jvm.Cond.interfaceEntry "QuotedRiver$Rivers" (57 : Nat)) ∈ lw_tbl := lw_at lw_m7 64 rfl
theorem q1597 : (Jvm.Cond.methodLink "QuotedRiver$Rivers" (57 : Nat) ({ cls := "java/util/List", name := "add", desc := "(Ljava/lang/Object;)Z" } : Jvm.MethodName)) ∈ lw_all := lw_g (lw_at lw_m7 65 rfl) rfl
theorem q1598 : (Jvm.Cond.interfaceEntry "QuotedRiver$Rivers" (61 : Nat)) ∈ lw_tbl := lw_at lw_m7 66 rfl
theorem q1599 : (Jvm.Cond.methodLink "QuotedRiver$Rivers" (61 : Nat) ({ cls := "java/util/List", name := "addAll", desc := "(Ljava/util/Collection;)Z" } : Jvm.MethodName)) ∈ lw_all := lw_g (lw_at lw_m7 67 rfl) rfl
theorem q2315 : (Jvm.Cond.castable "QuotedRiver$Rivers" "java/lang/Object") ∈ lw_tbl := lw_at lw_m10 63 rfl
theorem in_X2 : ∀ w ∈ wsX20, w ∈ lw_all := lw_in wsX20 [417, 419, 421, 423, 425, 427, 429, 431] (by decide +kernel) (by decide +kernel)
theorem q99 : (Jvm.Cond.initialized "QuotedRiver$Water") ∈ lw_all := lw_g (lw_at lw_m1 7 rfl) rfl
theorem q392 : (Jvm.Cond.fieldLinkNest "QuotedRiver$Water" (128 : Nat) "QuotedRiver$Rivers" "joins" "Ljava/util/List;" "QuotedRiver") ∈ lw_tbl := lw_at lw_m2 60 rfl
theorem q396 : (Jvm.Cond.fieldLinkNest "QuotedRiver$Water" (45 : Nat) "QuotedRiver$Rivers" "rains" "Ljava/util/List;" "QuotedRiver") ∈ lw_tbl := lw_at lw_m2 64 rfl
theorem q400 : (Jvm.Cond.fieldLinkNest "QuotedRiver$Water" (67 : Nat) "QuotedRiver$Rivers" "acts" "Ljava/util/List;" "QuotedRiver") ∈ lw_tbl := lw_at lw_m2 68 rfl
theorem q403 : (Jvm.Cond.fieldLinkNest "QuotedRiver$Water" (92 : Nat) "QuotedRiver$Rivers" "level" "I" "QuotedRiver") ∈ lw_tbl := lw_at lw_m2 71 rfl
theorem q407 : (Jvm.Cond.fieldLinkNest "QuotedRiver$Water" (113 : Nat) "QuotedRiver$Rivers" "odds" "I" "QuotedRiver") ∈ lw_tbl := lw_at lw_m2 75 rfl
theorem q411 : (Jvm.Cond.fieldLinkNest "QuotedRiver$Water" (116 : Nat) "QuotedRiver$Rivers" "swell" "I" "QuotedRiver") ∈ lw_tbl := lw_at lw_m2 79 rfl
theorem q436 : (Jvm.Cond.instantiable "QuotedRiver$Water" (9 : Nat)) ∈ lw_all := lw_g (lw_at lw_m2 104 rfl) rfl
theorem q438 : (Jvm.Cond.instanceMethod ({ cls := "QuotedRiver$Water", name := "<init>", desc := "(LQuotedRiver;)V" } : Jvm.MethodName)) ∈ lw_all := lw_g (lw_at lw_m2 106 rfl) rfl
theorem q439 : (Jvm.Cond.code ({ cls := "QuotedRiver$Water", name := "<init>", desc := "(LQuotedRiver;)V" } : Jvm.MethodName) prog_12_method_1_code (2 : Nat) (Option.none : Option Jvm.ClassFile.FieldType)) ∈ lw_all := lw_g (lw_at lw_m2 107 rfl) rfl
theorem q440 : (Jvm.Cond.methodLink "QuotedRiver$Water" (9 : Nat) ({ cls := "java/lang/Object", name := "<init>", desc := "()V" } : Jvm.MethodName)) ∈ lw_all := lw_g (lw_at lw_m2 108 rfl) rfl
theorem q441 : (Jvm.Cond.fieldLink "QuotedRiver$Water" (15 : Nat) "QuotedRiver$Water" "level" "[I") ∈ lw_all := lw_g (lw_at lw_m2 109 rfl) rfl
theorem q443 : (Jvm.Cond.fieldLink "QuotedRiver$Water" (19 : Nat) "QuotedRiver$Water" "told" "[I") ∈ lw_all := lw_g (lw_at lw_m2 111 rfl) rfl
theorem q445 : (Jvm.Cond.fieldLink "QuotedRiver$Water" (28 : Nat) "QuotedRiver$Water" "shut" "I") ∈ lw_all := lw_g (lw_at lw_m2 113 rfl) rfl
theorem q447 : (Jvm.Cond.fieldLink "QuotedRiver$Water" (32 : Nat) "QuotedRiver$Water" "stopped" "I") ∈ lw_all := lw_g (lw_at lw_m2 115 rfl) rfl
theorem q450 : (Jvm.Cond.fieldLink "QuotedRiver$Water" (35 : Nat) "QuotedRiver$Water" "turned" "I") ∈ lw_all := lw_g (lw_at lw_m2 118 rfl) rfl
theorem q452 : (Jvm.Cond.fieldLink "QuotedRiver$Water" (144 : Nat) "QuotedRiver$Water" "each" "I") ∈ lw_all := lw_g (lw_at lw_m2 120 rfl) rfl
theorem q454 : (Jvm.Cond.fieldLink "QuotedRiver$Water" (148 : Nat) "QuotedRiver$Water" "at" "I") ∈ lw_all := lw_g (lw_at lw_m2 122 rfl) rfl
theorem q456 : (Jvm.Cond.fieldLink "QuotedRiver$Water" (38 : Nat) "QuotedRiver$Water" "swelled" "I") ∈ lw_all := lw_g (lw_at lw_m2 124 rfl) rfl
theorem q458 : (Jvm.Cond.fieldLink "QuotedRiver$Water" (3 : Nat) "QuotedRiver$Water" "this$0" "LQuotedRiver;") ∈ lw_all := lw_g (lw_at lw_m2 126 rfl) rfl
theorem q459 : (Jvm.Cond.laysFinal "QuotedRiver$Water" "QuotedRiver$Water" "level" "[I") ∈ lw_all := lw_g (lw_at lw_m2 127 rfl) rfl
theorem q460 : (Jvm.Cond.soleField "QuotedRiver$Water" "level") ∈ lw_all := lw_g (lw_at lw_m2 128 rfl) rfl
theorem q461 : (Jvm.Cond.laysFinal "QuotedRiver$Water" "QuotedRiver$Water" "told" "[I") ∈ lw_all := lw_g (lw_at lw_m2 129 rfl) rfl
theorem q462 : (Jvm.Cond.soleField "QuotedRiver$Water" "told") ∈ lw_all := lw_g (lw_at lw_m2 130 rfl) rfl
theorem q463 : (Jvm.Cond.lays "QuotedRiver$Water" "QuotedRiver$Water" "shut" "I") ∈ lw_all := lw_g (lw_at lw_m2 131 rfl) rfl
theorem q464 : (Jvm.Cond.soleField "QuotedRiver$Water" "shut") ∈ lw_all := lw_g (lw_at lw_m2 132 rfl) rfl
theorem q465 : (Jvm.Cond.lays "QuotedRiver$Water" "QuotedRiver$Water" "stopped" "I") ∈ lw_all := lw_g (lw_at lw_m2 133 rfl) rfl
theorem q466 : (Jvm.Cond.soleField "QuotedRiver$Water" "stopped") ∈ lw_all := lw_g (lw_at lw_m2 134 rfl) rfl
theorem q467 : (Jvm.Cond.lays "QuotedRiver$Water" "QuotedRiver$Water" "turned" "I") ∈ lw_all := lw_g (lw_at lw_m2 135 rfl) rfl
theorem q468 : (Jvm.Cond.soleField "QuotedRiver$Water" "turned") ∈ lw_all := lw_g (lw_at lw_m2 136 rfl) rfl
theorem q469 : (Jvm.Cond.lays "QuotedRiver$Water" "QuotedRiver$Water" "each" "I") ∈ lw_all := lw_g (lw_at lw_m2 137 rfl) rfl
theorem q470 : (Jvm.Cond.soleField "QuotedRiver$Water" "each") ∈ lw_all := lw_g (lw_at lw_m2 138 rfl) rfl
theorem q471 : (Jvm.Cond.lays "QuotedRiver$Water" "QuotedRiver$Water" "at" "I") ∈ lw_all := lw_g (lw_at lw_m2 139 rfl) rfl
theorem q472 : (Jvm.Cond.soleField "QuotedRiver$Water" "at") ∈ lw_all := lw_g (lw_at lw_m2 140 rfl) rfl
theorem q473 : (Jvm.Cond.lays "QuotedRiver$Water" "QuotedRiver$Water" "swelled" "I") ∈ lw_all := lw_g (lw_at lw_m2 141 rfl) rfl
theorem q474 : (Jvm.Cond.soleField "QuotedRiver$Water" "swelled") ∈ lw_all := lw_g (lw_at lw_m2 142 rfl) rfl
theorem q475 : (Jvm.Cond.laysFinal "QuotedRiver$Water" "QuotedRiver$Water" "this$0" "LQuotedRiver;") ∈ lw_all := lw_g (lw_at lw_m2 143 rfl) rfl
theorem q476 : (Jvm.Cond.soleField "QuotedRiver$Water" "this$0") ∈ lw_all := lw_g (lw_at lw_m2 144 rfl) rfl
theorem q477 : (Jvm.Cond.superclass "QuotedRiver$Water" "java/lang/Object") ∈ lw_all := lw_g (lw_at lw_m2 145 rfl) rfl
theorem q553 : (Jvm.Cond.fieldLinkNest "QuotedRiver$Water" (41 : Nat) "QuotedRiver" "now" "LQuotedRiver$Rivers;" "QuotedRiver") ∈ lw_tbl := lw_at lw_m2 221 rfl
theorem q811 : (Jvm.Cond.fieldLinkNest "QuotedRiver$Water" (123 : Nat) "QuotedRiver$Reach" "low" "I" "QuotedRiver") ∈ lw_tbl := lw_at lw_m3 239 rfl
theorem q873 : (Jvm.Cond.selects "QuotedRiver$Water" ({ cls := "java/lang/Object", name := "getClass", desc := "()Ljava/lang/Class;" } : Jvm.MethodName) ({ cls := "java/lang/Object", name := "getClass", desc := "()Ljava/lang/Class;" } : Jvm.MethodName)) ∈ lw_all := lw_g (lw_at lw_m4 61 rfl) rfl
theorem q901 : (Jvm.Cond.fieldLinkNest "QuotedRiver$Water" (139 : Nat) "QuotedRiver$Join" "from" "I" "QuotedRiver") ∈ lw_tbl := lw_at lw_m4 89 rfl
theorem q907 : (Jvm.Cond.fieldLinkNest "QuotedRiver$Water" (147 : Nat) "QuotedRiver$Join" "each" "I" "QuotedRiver") ∈ lw_tbl := lw_at lw_m4 95 rfl
theorem q910 : (Jvm.Cond.fieldLinkNest "QuotedRiver$Water" (151 : Nat) "QuotedRiver$Join" "at" "I" "QuotedRiver") ∈ lw_tbl := lw_at lw_m4 98 rfl
theorem q936 : (Jvm.Cond.fieldLinkNest "QuotedRiver$Water" (89 : Nat) "QuotedRiver$Rain" "n" "I" "QuotedRiver") ∈ lw_tbl := lw_at lw_m4 124 rfl
theorem q939 : (Jvm.Cond.fieldLinkNest "QuotedRiver$Water" (86 : Nat) "QuotedRiver$Rain" "step" "I" "QuotedRiver") ∈ lw_tbl := lw_at lw_m4 127 rfl
theorem q1060 : (Jvm.Cond.instanceMethod ({ cls := "QuotedRiver$Water", name := "is", desc := "()LQuotedRiver$Water;" } : Jvm.MethodName)) ∈ lw_all := lw_g (lw_at lw_m5 8 rfl) rfl
theorem q1061 : (Jvm.Cond.selects "QuotedRiver$Water" ({ cls := "QuotedRiver$Water", name := "is", desc := "()LQuotedRiver$Water;" } : Jvm.MethodName) ({ cls := "QuotedRiver$Water", name := "is", desc := "()LQuotedRiver$Water;" } : Jvm.MethodName)) ∈ lw_all := lw_g (lw_at lw_m5 9 rfl) rfl
theorem q1062 : (Jvm.Cond.code ({ cls := "QuotedRiver$Water", name := "is", desc := "()LQuotedRiver$Water;" } : Jvm.MethodName) prog_12_method_2_code (3 : Nat) (Option.some (Jvm.ClassFile.FieldType.object "QuotedRiver$Water"))) ∈ lw_all := lw_g (lw_at lw_m5 10 rfl) rfl
theorem q1063 : (Jvm.Cond.methodLink "QuotedRiver$Water" (22 : Nat) ({ cls := "java/util/Arrays", name := "fill", desc := "([II)V" } : Jvm.MethodName)) ∈ lw_all := lw_g (lw_at lw_m5 11 rfl) rfl
theorem q1066 : (Jvm.Cond.interfaceEntry "QuotedRiver$Water" (51 : Nat)) ∈ lw_tbl := lw_at lw_m5 14 rfl
theorem q1067 : (Jvm.Cond.methodLink "QuotedRiver$Water" (51 : Nat) ({ cls := "java/util/List", name := "size", desc := "()I" } : Jvm.MethodName)) ∈ lw_all := lw_g (lw_at lw_m5 15 rfl) rfl
theorem q1068 : (Jvm.Cond.interfaceEntry "QuotedRiver$Water" (57 : Nat)) ∈ lw_tbl := lw_at lw_m5 16 rfl
theorem q1069 : (Jvm.Cond.methodLink "QuotedRiver$Water" (57 : Nat) ({ cls := "java/util/List", name := "get", desc := "(I)Ljava/lang/Object;" } : Jvm.MethodName)) ∈ lw_all := lw_g (lw_at lw_m5 17 rfl) rfl
theorem q1070 : (Jvm.Cond.classLink "QuotedRiver$Water" (61 : Nat) "QuotedRiver$Rain") ∈ lw_all := lw_g (lw_at lw_m5 18 rfl) rfl
theorem q1071 : (Jvm.Cond.methodLink "QuotedRiver$Water" (63 : Nat) ({ cls := "QuotedRiver$Water", name := "pours", desc := "(LQuotedRiver$Rain;)V" } : Jvm.MethodName)) ∈ lw_all := lw_g (lw_at lw_m5 19 rfl) rfl
theorem q1072 : (Jvm.Cond.privateMethod ({ cls := "QuotedRiver$Water", name := "pours", desc := "(LQuotedRiver$Rain;)V" } : Jvm.MethodName)) ∈ lw_tbl := lw_at lw_m5 20 rfl
theorem q1073 : (Jvm.Cond.instanceMethod ({ cls := "QuotedRiver$Water", name := "pours", desc := "(LQuotedRiver$Rain;)V" } : Jvm.MethodName)) ∈ lw_all := lw_g (lw_at lw_m5 21 rfl) rfl
theorem q1074 : (Jvm.Cond.code ({ cls := "QuotedRiver$Water", name := "pours", desc := "(LQuotedRiver$Rain;)V" } : Jvm.MethodName) prog_12_method_3_code (2 : Nat) (Option.none : Option Jvm.ClassFile.FieldType)) ∈ lw_all := lw_g (lw_at lw_m5 22 rfl) rfl
theorem q1075 : (Jvm.Cond.classLink "QuotedRiver$Water" (70 : Nat) "QuotedRiver$Act") ∈ lw_all := lw_g (lw_at lw_m5 23 rfl) rfl
theorem q1076 : (Jvm.Cond.methodLink "QuotedRiver$Water" (82 : Nat) ({ cls := "QuotedRiver$Water", name := "flows", desc := "()LQuotedRiver$Water;" } : Jvm.MethodName)) ∈ lw_all := lw_g (lw_at lw_m5 24 rfl) rfl
theorem q1077 : (Jvm.Cond.instanceMethod ({ cls := "QuotedRiver$Water", name := "flows", desc := "()LQuotedRiver$Water;" } : Jvm.MethodName)) ∈ lw_all := lw_g (lw_at lw_m5 25 rfl) rfl
theorem q1078 : (Jvm.Cond.selects "QuotedRiver$Water" ({ cls := "QuotedRiver$Water", name := "flows", desc := "()LQuotedRiver$Water;" } : Jvm.MethodName) ({ cls := "QuotedRiver$Water", name := "flows", desc := "()LQuotedRiver$Water;" } : Jvm.MethodName)) ∈ lw_all := lw_g (lw_at lw_m5 26 rfl) rfl
theorem q1079 : (Jvm.Cond.code ({ cls := "QuotedRiver$Water", name := "flows", desc := "()LQuotedRiver$Water;" } : Jvm.MethodName) prog_12_method_4_code (2 : Nat) (Option.some (Jvm.ClassFile.FieldType.object "QuotedRiver$Water"))) ∈ lw_all := lw_g (lw_at lw_m5 27 rfl) rfl
theorem q1080 : (Jvm.Cond.methodLink "QuotedRiver$Water" (94 : Nat) ({ cls := "java/lang/Math", name := "max", desc := "(II)I" } : Jvm.MethodName)) ∈ lw_all := lw_g (lw_at lw_m5 28 rfl) rfl
theorem q1082 : (Jvm.Cond.instanceMethod ({ cls := "QuotedRiver$Water", name := "isStanding", desc := "(II)Z" } : Jvm.MethodName)) ∈ lw_all := lw_g (lw_at lw_m5 30 rfl) rfl
theorem q1083 : (Jvm.Cond.selects "QuotedRiver$Water" ({ cls := "QuotedRiver$Water", name := "isStanding", desc := "(II)Z" } : Jvm.MethodName) ({ cls := "QuotedRiver$Water", name := "isStanding", desc := "(II)Z" } : Jvm.MethodName)) ∈ lw_all := lw_g (lw_at lw_m5 31 rfl) rfl
theorem q1084 : (Jvm.Cond.code ({ cls := "QuotedRiver$Water", name := "isStanding", desc := "(II)Z" } : Jvm.MethodName) prog_12_method_6_code (3 : Nat) (Option.some Jvm.ClassFile.FieldType.boolean)) ∈ lw_all := lw_g (lw_at lw_m5 32 rfl) rfl
theorem q1085 : (Jvm.Cond.methodLinkNest "QuotedRiver$Water" (119 : Nat) ({ cls := "QuotedRiver", name := "one", desc := "(I)LQuotedRiver$Reach;" } : Jvm.MethodName) "QuotedRiver") ∈ lw_tbl := lw_at lw_m5 33 rfl
theorem q1113 : (Jvm.Cond.instanceMethod ({ cls := "QuotedRiver$Water", name := "joinFrom", desc := "(II)I" } : Jvm.MethodName)) ∈ lw_all := lw_g (lw_at lw_m5 61 rfl) rfl
theorem q1114 : (Jvm.Cond.selects "QuotedRiver$Water" ({ cls := "QuotedRiver$Water", name := "joinFrom", desc := "(II)I" } : Jvm.MethodName) ({ cls := "QuotedRiver$Water", name := "joinFrom", desc := "(II)I" } : Jvm.MethodName)) ∈ lw_all := lw_g (lw_at lw_m5 62 rfl) rfl
theorem q1115 : (Jvm.Cond.code ({ cls := "QuotedRiver$Water", name := "joinFrom", desc := "(II)I" } : Jvm.MethodName) prog_12_method_7_code (5 : Nat) (Option.some Jvm.ClassFile.FieldType.int)) ∈ lw_all := lw_g (lw_at lw_m5 63 rfl) rfl
theorem q1116 : (Jvm.Cond.methodLinkNest "QuotedRiver$Water" (131 : Nat) ({ cls := "QuotedRiver", name := "isOn", desc := "(II)Z" } : Jvm.MethodName) "QuotedRiver") ∈ lw_tbl := lw_at lw_m5 64 rfl
theorem q1117 : (Jvm.Cond.methodLinkNest "QuotedRiver$Water" (135 : Nat) ({ cls := "QuotedRiver", name := "joinOf", desc := "(I)LQuotedRiver$Join;" } : Jvm.MethodName) "QuotedRiver") ∈ lw_tbl := lw_at lw_m5 65 rfl
theorem q1478 : (Jvm.Cond.fieldLinkNest "QuotedRiver$Water" (79 : Nat) "QuotedRiver$Act" "join" "I" "QuotedRiver") ∈ lw_tbl := lw_at lw_m6 186 rfl
theorem q1480 : (Jvm.Cond.fieldLinkNest "QuotedRiver$Water" (76 : Nat) "QuotedRiver$Act" "on" "I" "QuotedRiver") ∈ lw_tbl := lw_at lw_m6 188 rfl
theorem q1482 : (Jvm.Cond.fieldLinkNest "QuotedRiver$Water" (72 : Nat) "QuotedRiver$Act" "rain" "LQuotedRiver$Rain;" "QuotedRiver") ∈ lw_tbl := lw_at lw_m6 190 rfl
theorem q1551 : (Jvm.Cond.instanceMethod ({ cls := "QuotedRiver$Water", name := "draws", desc := "(J)LQuotedRiver$Water;" } : Jvm.MethodName)) ∈ lw_all := lw_g (lw_at lw_m7 19 rfl) rfl
theorem q1552 : (Jvm.Cond.selects "QuotedRiver$Water" ({ cls := "QuotedRiver$Water", name := "draws", desc := "(J)LQuotedRiver$Water;" } : Jvm.MethodName) ({ cls := "QuotedRiver$Water", name := "draws", desc := "(J)LQuotedRiver$Water;" } : Jvm.MethodName)) ∈ lw_all := lw_g (lw_at lw_m7 20 rfl) rfl
theorem q1553 : (Jvm.Cond.code ({ cls := "QuotedRiver$Water", name := "draws", desc := "(J)LQuotedRiver$Water;" } : Jvm.MethodName) prog_12_method_5_code (6 : Nat) (Option.some (Jvm.ClassFile.FieldType.object "QuotedRiver$Water"))) ∈ lw_all := lw_g (lw_at lw_m7 21 rfl) rfl
theorem q1554 : (Jvm.Cond.methodLink "QuotedRiver$Water" (100 : Nat) ({ cls := "QuotedRiver$Water", name := "is", desc := "()LQuotedRiver$Water;" } : Jvm.MethodName)) ∈ lw_all := lw_g (lw_at lw_m7 22 rfl) rfl
theorem q1555 : (Jvm.Cond.constantLong "QuotedRiver$Water" (103 : Nat) (1103515245 : Int64)) ∈ lw_all := lw_g (lw_at lw_m7 23 rfl) rfl
theorem q1556 : (Jvm.Cond.constantLong "QuotedRiver$Water" (105 : Nat) (12345 : Int64)) ∈ lw_all := lw_g (lw_at lw_m7 24 rfl) rfl
theorem q1557 : (Jvm.Cond.constantLong "QuotedRiver$Water" (107 : Nat) (2147483648 : Int64)) ∈ lw_all := lw_g (lw_at lw_m7 25 rfl) rfl
theorem q1558 : (Jvm.Cond.constantLong "QuotedRiver$Water" (109 : Nat) (65536 : Int64)) ∈ lw_all := lw_g (lw_at lw_m7 26 rfl) rfl
theorem q1559 : (Jvm.Cond.constantLong "QuotedRiver$Water" (111 : Nat) (10 : Int64)) ∈ lw_all := lw_g (lw_at lw_m7 27 rfl) rfl
theorem q2318 : (Jvm.Cond.castable "QuotedRiver$Water" "java/lang/Object") ∈ lw_tbl := lw_at lw_m10 66 rfl
theorem in_X3 : ∀ w ∈ wsX30, w ∈ lw_all := lw_in wsX30 [459, 461, 463, 465, 467, 469, 471, 473, 475] (by decide +kernel) (by decide +kernel)
theorem q100 : (Jvm.Cond.initialized "QuotedRiver$Stick") ∈ lw_all := lw_g (lw_at lw_m1 8 rfl) rfl
theorem q448 : (Jvm.Cond.fieldLinkNest "QuotedRiver$Stick" (48 : Nat) "QuotedRiver$Water" "stopped" "I" "QuotedRiver") ∈ lw_tbl := lw_at lw_m2 116 rfl
theorem q479 : (Jvm.Cond.instantiable "QuotedRiver$Stick" (9 : Nat)) ∈ lw_all := lw_g (lw_at lw_m2 147 rfl) rfl
theorem q481 : (Jvm.Cond.instanceMethod ({ cls := "QuotedRiver$Stick", name := "<init>", desc := "(LQuotedRiver;)V" } : Jvm.MethodName)) ∈ lw_all := lw_g (lw_at lw_m2 149 rfl) rfl
theorem q482 : (Jvm.Cond.code ({ cls := "QuotedRiver$Stick", name := "<init>", desc := "(LQuotedRiver;)V" } : Jvm.MethodName) prog_11_method_1_code (2 : Nat) (Option.none : Option Jvm.ClassFile.FieldType)) ∈ lw_all := lw_g (lw_at lw_m2 150 rfl) rfl
theorem q483 : (Jvm.Cond.methodLink "QuotedRiver$Stick" (9 : Nat) ({ cls := "java/lang/Object", name := "<init>", desc := "()V" } : Jvm.MethodName)) ∈ lw_all := lw_g (lw_at lw_m2 151 rfl) rfl
theorem q484 : (Jvm.Cond.fieldLink "QuotedRiver$Stick" (15 : Nat) "QuotedRiver$Stick" "at" "[I") ∈ lw_all := lw_g (lw_at lw_m2 152 rfl) rfl
theorem q487 : (Jvm.Cond.fieldLink "QuotedRiver$Stick" (19 : Nat) "QuotedRiver$Stick" "from" "I") ∈ lw_all := lw_g (lw_at lw_m2 155 rfl) rfl
theorem q488 : (Jvm.Cond.fieldLink "QuotedRiver$Stick" (23 : Nat) "QuotedRiver$Stick" "left" "I") ∈ lw_all := lw_g (lw_at lw_m2 156 rfl) rfl
theorem q490 : (Jvm.Cond.fieldLink "QuotedRiver$Stick" (26 : Nat) "QuotedRiver$Stick" "jumped" "I") ∈ lw_all := lw_g (lw_at lw_m2 158 rfl) rfl
theorem q492 : (Jvm.Cond.fieldLink "QuotedRiver$Stick" (29 : Nat) "QuotedRiver$Stick" "waited" "I") ∈ lw_all := lw_g (lw_at lw_m2 160 rfl) rfl
theorem q494 : (Jvm.Cond.fieldLink "QuotedRiver$Stick" (32 : Nat) "QuotedRiver$Stick" "joins" "I") ∈ lw_all := lw_g (lw_at lw_m2 162 rfl) rfl
theorem q496 : (Jvm.Cond.fieldLink "QuotedRiver$Stick" (35 : Nat) "QuotedRiver$Stick" "back" "I") ∈ lw_all := lw_g (lw_at lw_m2 164 rfl) rfl
theorem q498 : (Jvm.Cond.fieldLink "QuotedRiver$Stick" (57 : Nat) "QuotedRiver$Stick" "come" "I") ∈ lw_all := lw_g (lw_at lw_m2 166 rfl) rfl
theorem q499 : (Jvm.Cond.fieldLink "QuotedRiver$Stick" (3 : Nat) "QuotedRiver$Stick" "this$0" "LQuotedRiver;") ∈ lw_all := lw_g (lw_at lw_m2 167 rfl) rfl
theorem q500 : (Jvm.Cond.laysFinal "QuotedRiver$Stick" "QuotedRiver$Stick" "at" "[I") ∈ lw_all := lw_g (lw_at lw_m2 168 rfl) rfl
theorem q501 : (Jvm.Cond.soleField "QuotedRiver$Stick" "at") ∈ lw_all := lw_g (lw_at lw_m2 169 rfl) rfl
theorem q502 : (Jvm.Cond.lays "QuotedRiver$Stick" "QuotedRiver$Stick" "from" "I") ∈ lw_all := lw_g (lw_at lw_m2 170 rfl) rfl
theorem q503 : (Jvm.Cond.soleField "QuotedRiver$Stick" "from") ∈ lw_all := lw_g (lw_at lw_m2 171 rfl) rfl
theorem q504 : (Jvm.Cond.lays "QuotedRiver$Stick" "QuotedRiver$Stick" "left" "I") ∈ lw_all := lw_g (lw_at lw_m2 172 rfl) rfl
theorem q505 : (Jvm.Cond.soleField "QuotedRiver$Stick" "left") ∈ lw_all := lw_g (lw_at lw_m2 173 rfl) rfl
theorem q506 : (Jvm.Cond.lays "QuotedRiver$Stick" "QuotedRiver$Stick" "jumped" "I") ∈ lw_all := lw_g (lw_at lw_m2 174 rfl) rfl
theorem q507 : (Jvm.Cond.soleField "QuotedRiver$Stick" "jumped") ∈ lw_all := lw_g (lw_at lw_m2 175 rfl) rfl
theorem q508 : (Jvm.Cond.lays "QuotedRiver$Stick" "QuotedRiver$Stick" "waited" "I") ∈ lw_all := lw_g (lw_at lw_m2 176 rfl) rfl
theorem q509 : (Jvm.Cond.soleField "QuotedRiver$Stick" "waited") ∈ lw_all := lw_g (lw_at lw_m2 177 rfl) rfl
theorem q510 : (Jvm.Cond.lays "QuotedRiver$Stick" "QuotedRiver$Stick" "joins" "I") ∈ lw_all := lw_g (lw_at lw_m2 178 rfl) rfl
theorem q511 : (Jvm.Cond.soleField "QuotedRiver$Stick" "joins") ∈ lw_all := lw_g (lw_at lw_m2 179 rfl) rfl
theorem q512 : (Jvm.Cond.lays "QuotedRiver$Stick" "QuotedRiver$Stick" "back" "I") ∈ lw_all := lw_g (lw_at lw_m2 180 rfl) rfl
theorem q513 : (Jvm.Cond.soleField "QuotedRiver$Stick" "back") ∈ lw_all := lw_g (lw_at lw_m2 181 rfl) rfl
theorem q514 : (Jvm.Cond.lays "QuotedRiver$Stick" "QuotedRiver$Stick" "come" "I") ∈ lw_all := lw_g (lw_at lw_m2 182 rfl) rfl
theorem q515 : (Jvm.Cond.soleField "QuotedRiver$Stick" "come") ∈ lw_all := lw_g (lw_at lw_m2 183 rfl) rfl
theorem q516 : (Jvm.Cond.laysFinal "QuotedRiver$Stick" "QuotedRiver$Stick" "this$0" "LQuotedRiver;") ∈ lw_all := lw_g (lw_at lw_m2 184 rfl) rfl
theorem q517 : (Jvm.Cond.soleField "QuotedRiver$Stick" "this$0") ∈ lw_all := lw_g (lw_at lw_m2 185 rfl) rfl
theorem q518 : (Jvm.Cond.superclass "QuotedRiver$Stick" "java/lang/Object") ∈ lw_all := lw_g (lw_at lw_m2 186 rfl) rfl
theorem q561 : (Jvm.Cond.fieldLinkNest "QuotedRiver$Stick" (44 : Nat) "QuotedRiver" "water" "LQuotedRiver$Water;" "QuotedRiver") ∈ lw_tbl := lw_at lw_m2 229 rfl
theorem q803 : (Jvm.Cond.fieldLinkNest "QuotedRiver$Stick" (80 : Nat) "QuotedRiver$Reach" "to" "I" "QuotedRiver") ∈ lw_tbl := lw_at lw_m3 231 rfl
theorem q807 : (Jvm.Cond.fieldLinkNest "QuotedRiver$Stick" (71 : Nat) "QuotedRiver$Reach" "takes" "I" "QuotedRiver") ∈ lw_tbl := lw_at lw_m3 235 rfl
theorem q872 : (Jvm.Cond.selects "QuotedRiver$Stick" ({ cls := "java/lang/Object", name := "getClass", desc := "()Ljava/lang/Class;" } : Jvm.MethodName) ({ cls := "java/lang/Object", name := "getClass", desc := "()Ljava/lang/Class;" } : Jvm.MethodName)) ∈ lw_all := lw_g (lw_at lw_m4 60 rfl) rfl
theorem q904 : (Jvm.Cond.fieldLinkNest "QuotedRiver$Stick" (87 : Nat) "QuotedRiver$Join" "to" "I" "QuotedRiver") ∈ lw_tbl := lw_at lw_m4 92 rfl
theorem q1099 : (Jvm.Cond.instanceMethod ({ cls := "QuotedRiver$Stick", name := "goes", desc := "(II)LQuotedRiver$Stick;" } : Jvm.MethodName)) ∈ lw_all := lw_g (lw_at lw_m5 47 rfl) rfl
theorem q1100 : (Jvm.Cond.selects "QuotedRiver$Stick" ({ cls := "QuotedRiver$Stick", name := "goes", desc := "(II)LQuotedRiver$Stick;" } : Jvm.MethodName) ({ cls := "QuotedRiver$Stick", name := "goes", desc := "(II)LQuotedRiver$Stick;" } : Jvm.MethodName)) ∈ lw_all := lw_g (lw_at lw_m5 48 rfl) rfl
theorem q1101 : (Jvm.Cond.code ({ cls := "QuotedRiver$Stick", name := "goes", desc := "(II)LQuotedRiver$Stick;" } : Jvm.MethodName) prog_11_method_2_code (9 : Nat) (Option.some (Jvm.ClassFile.FieldType.object "QuotedRiver$Stick"))) ∈ lw_all := lw_g (lw_at lw_m5 49 rfl) rfl
theorem q1102 : (Jvm.Cond.methodLink "QuotedRiver$Stick" (38 : Nat) ({ cls := "java/util/Arrays", name := "fill", desc := "([II)V" } : Jvm.MethodName)) ∈ lw_all := lw_g (lw_at lw_m5 50 rfl) rfl
theorem q1103 : (Jvm.Cond.methodLinkNest "QuotedRiver$Stick" (53 : Nat) ({ cls := "QuotedRiver", name := "isOn", desc := "(II)Z" } : Jvm.MethodName) "QuotedRiver") ∈ lw_tbl := lw_at lw_m5 51 rfl
theorem q1106 : (Jvm.Cond.methodLink "QuotedRiver$Stick" (60 : Nat) ({ cls := "QuotedRiver$Stick", name := "isNew", desc := "(I)Z" } : Jvm.MethodName)) ∈ lw_all := lw_g (lw_at lw_m5 54 rfl) rfl
theorem q1107 : (Jvm.Cond.privateMethod ({ cls := "QuotedRiver$Stick", name := "isNew", desc := "(I)Z" } : Jvm.MethodName)) ∈ lw_tbl := lw_at lw_m5 55 rfl
theorem q1108 : (Jvm.Cond.instanceMethod ({ cls := "QuotedRiver$Stick", name := "isNew", desc := "(I)Z" } : Jvm.MethodName)) ∈ lw_all := lw_g (lw_at lw_m5 56 rfl) rfl
theorem q1109 : (Jvm.Cond.code ({ cls := "QuotedRiver$Stick", name := "isNew", desc := "(I)Z" } : Jvm.MethodName) prog_11_method_3_code (2 : Nat) (Option.some Jvm.ClassFile.FieldType.boolean)) ∈ lw_all := lw_g (lw_at lw_m5 57 rfl) rfl
theorem q1110 : (Jvm.Cond.methodLink "QuotedRiver$Stick" (64 : Nat) ({ cls := "QuotedRiver$Water", name := "isStanding", desc := "(II)Z" } : Jvm.MethodName)) ∈ lw_all := lw_g (lw_at lw_m5 58 rfl) rfl
theorem q1111 : (Jvm.Cond.methodLinkNest "QuotedRiver$Stick" (67 : Nat) ({ cls := "QuotedRiver", name := "one", desc := "(I)LQuotedRiver$Reach;" } : Jvm.MethodName) "QuotedRiver") ∈ lw_tbl := lw_at lw_m5 59 rfl
theorem q1112 : (Jvm.Cond.methodLink "QuotedRiver$Stick" (76 : Nat) ({ cls := "QuotedRiver$Water", name := "joinFrom", desc := "(II)I" } : Jvm.MethodName)) ∈ lw_all := lw_g (lw_at lw_m5 60 rfl) rfl
theorem q1118 : (Jvm.Cond.methodLinkNest "QuotedRiver$Stick" (83 : Nat) ({ cls := "QuotedRiver", name := "joinOf", desc := "(I)LQuotedRiver$Join;" } : Jvm.MethodName) "QuotedRiver") ∈ lw_tbl := lw_at lw_m5 66 rfl
theorem q1209 : (Jvm.Cond.instanceMethod ({ cls := "QuotedRiver$Stick", name := "way", desc := "()I" } : Jvm.MethodName)) ∈ lw_all := lw_g (lw_at lw_m5 157 rfl) rfl
theorem q1210 : (Jvm.Cond.selects "QuotedRiver$Stick" ({ cls := "QuotedRiver$Stick", name := "way", desc := "()I" } : Jvm.MethodName) ({ cls := "QuotedRiver$Stick", name := "way", desc := "()I" } : Jvm.MethodName)) ∈ lw_all := lw_g (lw_at lw_m5 158 rfl) rfl
theorem q1211 : (Jvm.Cond.code ({ cls := "QuotedRiver$Stick", name := "way", desc := "()I" } : Jvm.MethodName) prog_11_method_5_code (3 : Nat) (Option.some Jvm.ClassFile.FieldType.int)) ∈ lw_all := lw_g (lw_at lw_m5 159 rfl) rfl
theorem q1217 : (Jvm.Cond.instanceMethod ({ cls := "QuotedRiver$Stick", name := "first", desc := "(I)I" } : Jvm.MethodName)) ∈ lw_all := lw_g (lw_at lw_m5 165 rfl) rfl
theorem q1218 : (Jvm.Cond.selects "QuotedRiver$Stick" ({ cls := "QuotedRiver$Stick", name := "first", desc := "(I)I" } : Jvm.MethodName) ({ cls := "QuotedRiver$Stick", name := "first", desc := "(I)I" } : Jvm.MethodName)) ∈ lw_all := lw_g (lw_at lw_m5 166 rfl) rfl
theorem q1219 : (Jvm.Cond.code ({ cls := "QuotedRiver$Stick", name := "first", desc := "(I)I" } : Jvm.MethodName) prog_11_method_4_code (3 : Nat) (Option.some Jvm.ClassFile.FieldType.int)) ∈ lw_all := lw_g (lw_at lw_m5 167 rfl) rfl
theorem q2319 : (Jvm.Cond.castable "QuotedRiver$Stick" "java/lang/Object") ∈ lw_tbl := lw_at lw_m10 67 rfl
theorem in_X4 : ∀ w ∈ wsX40, w ∈ lw_all := lw_in wsX40 [500, 502, 504, 506, 508, 510, 512, 514, 516] (by decide +kernel) (by decide +kernel)
theorem q101 : (Jvm.Cond.initialized "QuotedRiver$Seen") ∈ lw_all := lw_g (lw_at lw_m1 9 rfl) rfl
theorem q485 : (Jvm.Cond.fieldLinkNest "QuotedRiver$Seen" (69 : Nat) "QuotedRiver$Stick" "at" "[I" "QuotedRiver") ∈ lw_tbl := lw_at lw_m2 153 rfl
theorem q520 : (Jvm.Cond.instantiable "QuotedRiver$Seen" (7 : Nat)) ∈ lw_all := lw_g (lw_at lw_m2 188 rfl) rfl
theorem q522 : (Jvm.Cond.instanceMethod ({ cls := "QuotedRiver$Seen", name := "<init>", desc := "(LQuotedRiver;)V" } : Jvm.MethodName)) ∈ lw_all := lw_g (lw_at lw_m2 190 rfl) rfl
theorem q523 : (Jvm.Cond.code ({ cls := "QuotedRiver$Seen", name := "<init>", desc := "(LQuotedRiver;)V" } : Jvm.MethodName) prog_9_method_1_code (2 : Nat) (Option.none : Option Jvm.ClassFile.FieldType)) ∈ lw_all := lw_g (lw_at lw_m2 191 rfl) rfl
theorem q524 : (Jvm.Cond.methodLink "QuotedRiver$Seen" (9 : Nat) ({ cls := "java/lang/Object", name := "<init>", desc := "()V" } : Jvm.MethodName)) ∈ lw_all := lw_g (lw_at lw_m2 192 rfl) rfl
theorem q525 : (Jvm.Cond.fieldLink "QuotedRiver$Seen" (15 : Nat) "QuotedRiver$Seen" "often" "[I") ∈ lw_all := lw_g (lw_at lw_m2 193 rfl) rfl
theorem q526 : (Jvm.Cond.fieldLink "QuotedRiver$Seen" (29 : Nat) "QuotedRiver$Seen" "many" "I") ∈ lw_all := lw_g (lw_at lw_m2 194 rfl) rfl
theorem q528 : (Jvm.Cond.fieldLink "QuotedRiver$Seen" (33 : Nat) "QuotedRiver$Seen" "reaches" "I") ∈ lw_all := lw_g (lw_at lw_m2 196 rfl) rfl
theorem q530 : (Jvm.Cond.fieldLink "QuotedRiver$Seen" (36 : Nat) "QuotedRiver$Seen" "first" "I") ∈ lw_all := lw_g (lw_at lw_m2 198 rfl) rfl
theorem q532 : (Jvm.Cond.fieldLink "QuotedRiver$Seen" (72 : Nat) "QuotedRiver$Seen" "best" "I") ∈ lw_all := lw_g (lw_at lw_m2 200 rfl) rfl
theorem q534 : (Jvm.Cond.fieldLink "QuotedRiver$Seen" (75 : Nat) "QuotedRiver$Seen" "leaves" "I") ∈ lw_all := lw_g (lw_at lw_m2 202 rfl) rfl
theorem q536 : (Jvm.Cond.fieldLink "QuotedRiver$Seen" (3 : Nat) "QuotedRiver$Seen" "this$0" "LQuotedRiver;") ∈ lw_all := lw_g (lw_at lw_m2 204 rfl) rfl
theorem q537 : (Jvm.Cond.laysFinal "QuotedRiver$Seen" "QuotedRiver$Seen" "often" "[I") ∈ lw_all := lw_g (lw_at lw_m2 205 rfl) rfl
theorem q538 : (Jvm.Cond.soleField "QuotedRiver$Seen" "often") ∈ lw_all := lw_g (lw_at lw_m2 206 rfl) rfl
theorem q539 : (Jvm.Cond.lays "QuotedRiver$Seen" "QuotedRiver$Seen" "many" "I") ∈ lw_all := lw_g (lw_at lw_m2 207 rfl) rfl
theorem q540 : (Jvm.Cond.soleField "QuotedRiver$Seen" "many") ∈ lw_all := lw_g (lw_at lw_m2 208 rfl) rfl
theorem q541 : (Jvm.Cond.lays "QuotedRiver$Seen" "QuotedRiver$Seen" "reaches" "I") ∈ lw_all := lw_g (lw_at lw_m2 209 rfl) rfl
theorem q542 : (Jvm.Cond.soleField "QuotedRiver$Seen" "reaches") ∈ lw_all := lw_g (lw_at lw_m2 210 rfl) rfl
theorem q543 : (Jvm.Cond.lays "QuotedRiver$Seen" "QuotedRiver$Seen" "first" "I") ∈ lw_all := lw_g (lw_at lw_m2 211 rfl) rfl
theorem q544 : (Jvm.Cond.soleField "QuotedRiver$Seen" "first") ∈ lw_all := lw_g (lw_at lw_m2 212 rfl) rfl
theorem q545 : (Jvm.Cond.lays "QuotedRiver$Seen" "QuotedRiver$Seen" "best" "I") ∈ lw_all := lw_g (lw_at lw_m2 213 rfl) rfl
theorem q546 : (Jvm.Cond.soleField "QuotedRiver$Seen" "best") ∈ lw_all := lw_g (lw_at lw_m2 214 rfl) rfl
theorem q547 : (Jvm.Cond.lays "QuotedRiver$Seen" "QuotedRiver$Seen" "leaves" "I") ∈ lw_all := lw_g (lw_at lw_m2 215 rfl) rfl
theorem q548 : (Jvm.Cond.soleField "QuotedRiver$Seen" "leaves") ∈ lw_all := lw_g (lw_at lw_m2 216 rfl) rfl
theorem q549 : (Jvm.Cond.laysFinal "QuotedRiver$Seen" "QuotedRiver$Seen" "this$0" "LQuotedRiver;") ∈ lw_all := lw_g (lw_at lw_m2 217 rfl) rfl
theorem q550 : (Jvm.Cond.soleField "QuotedRiver$Seen" "this$0") ∈ lw_all := lw_g (lw_at lw_m2 218 rfl) rfl
theorem q551 : (Jvm.Cond.superclass "QuotedRiver$Seen" "java/lang/Object") ∈ lw_all := lw_g (lw_at lw_m2 219 rfl) rfl
theorem q560 : (Jvm.Cond.fieldLinkNest "QuotedRiver$Seen" (19 : Nat) "QuotedRiver" "water" "LQuotedRiver$Water;" "QuotedRiver") ∈ lw_tbl := lw_at lw_m2 228 rfl
theorem q563 : (Jvm.Cond.fieldLinkNest "QuotedRiver$Seen" (48 : Nat) "QuotedRiver" "stick" "LQuotedRiver$Stick;" "QuotedRiver") ∈ lw_tbl := lw_at lw_m2 231 rfl
theorem q870 : (Jvm.Cond.selects "QuotedRiver$Seen" ({ cls := "java/lang/Object", name := "getClass", desc := "()Ljava/lang/Class;" } : Jvm.MethodName) ({ cls := "java/lang/Object", name := "getClass", desc := "()Ljava/lang/Class;" } : Jvm.MethodName)) ∈ lw_all := lw_g (lw_at lw_m4 58 rfl) rfl
theorem q1381 : (Jvm.Cond.instanceMethod ({ cls := "QuotedRiver$Seen", name := "of", desc := "(LQuotedRiver$Slot;)LQuotedRiver$Seen;" } : Jvm.MethodName)) ∈ lw_all := lw_g (lw_at lw_m6 89 rfl) rfl
theorem q1382 : (Jvm.Cond.selects "QuotedRiver$Seen" ({ cls := "QuotedRiver$Seen", name := "of", desc := "(LQuotedRiver$Slot;)LQuotedRiver$Seen;" } : Jvm.MethodName) ({ cls := "QuotedRiver$Seen", name := "of", desc := "(LQuotedRiver$Slot;)LQuotedRiver$Seen;" } : Jvm.MethodName)) ∈ lw_all := lw_g (lw_at lw_m6 90 rfl) rfl
theorem q1383 : (Jvm.Cond.code ({ cls := "QuotedRiver$Seen", name := "of", desc := "(LQuotedRiver$Slot;)LQuotedRiver$Seen;" } : Jvm.MethodName) prog_9_method_2_code (4 : Nat) (Option.some (Jvm.ClassFile.FieldType.object "QuotedRiver$Seen"))) ∈ lw_all := lw_g (lw_at lw_m6 91 rfl) rfl
theorem q1384 : (Jvm.Cond.methodLink "QuotedRiver$Seen" (23 : Nat) ({ cls := "QuotedRiver$Water", name := "is", desc := "()LQuotedRiver$Water;" } : Jvm.MethodName)) ∈ lw_all := lw_g (lw_at lw_m6 92 rfl) rfl
theorem q1385 : (Jvm.Cond.methodLink "QuotedRiver$Seen" (39 : Nat) ({ cls := "java/util/Arrays", name := "fill", desc := "([II)V" } : Jvm.MethodName)) ∈ lw_all := lw_g (lw_at lw_m6 93 rfl) rfl
theorem q1386 : (Jvm.Cond.methodLinkNest "QuotedRiver$Seen" (45 : Nat) ({ cls := "QuotedRiver", name := "reaches", desc := "()I" } : Jvm.MethodName) "QuotedRiver") ∈ lw_tbl := lw_at lw_m6 94 rfl
theorem q1387 : (Jvm.Cond.methodLink "QuotedRiver$Seen" (52 : Nat) ({ cls := "QuotedRiver$Stick", name := "goes", desc := "(II)LQuotedRiver$Stick;" } : Jvm.MethodName)) ∈ lw_all := lw_g (lw_at lw_m6 95 rfl) rfl
theorem q1388 : (Jvm.Cond.methodLinkNest "QuotedRiver$Seen" (58 : Nat) ({ cls := "QuotedRiver", name := "isSeen", desc := "(LQuotedRiver$Slot;)Z" } : Jvm.MethodName) "QuotedRiver") ∈ lw_tbl := lw_at lw_m6 96 rfl
theorem q1392 : (Jvm.Cond.methodLink "QuotedRiver$Seen" (62 : Nat) ({ cls := "QuotedRiver$Seen", name := "adds", desc := "(II)V" } : Jvm.MethodName)) ∈ lw_all := lw_g (lw_at lw_m6 100 rfl) rfl
theorem q1393 : (Jvm.Cond.privateMethod ({ cls := "QuotedRiver$Seen", name := "adds", desc := "(II)V" } : Jvm.MethodName)) ∈ lw_tbl := lw_at lw_m6 101 rfl
theorem q1394 : (Jvm.Cond.instanceMethod ({ cls := "QuotedRiver$Seen", name := "adds", desc := "(II)V" } : Jvm.MethodName)) ∈ lw_all := lw_g (lw_at lw_m6 102 rfl) rfl
theorem q1395 : (Jvm.Cond.code ({ cls := "QuotedRiver$Seen", name := "adds", desc := "(II)V" } : Jvm.MethodName) prog_9_method_3_code (4 : Nat) (Option.none : Option Jvm.ClassFile.FieldType)) ∈ lw_all := lw_g (lw_at lw_m6 103 rfl) rfl
theorem q1396 : (Jvm.Cond.methodLink "QuotedRiver$Seen" (66 : Nat) ({ cls := "QuotedRiver$Seen", name := "asks", desc := "()V" } : Jvm.MethodName)) ∈ lw_all := lw_g (lw_at lw_m6 104 rfl) rfl
theorem q1397 : (Jvm.Cond.privateMethod ({ cls := "QuotedRiver$Seen", name := "asks", desc := "()V" } : Jvm.MethodName)) ∈ lw_tbl := lw_at lw_m6 105 rfl
theorem q1398 : (Jvm.Cond.instanceMethod ({ cls := "QuotedRiver$Seen", name := "asks", desc := "()V" } : Jvm.MethodName)) ∈ lw_all := lw_g (lw_at lw_m6 106 rfl) rfl
theorem q1399 : (Jvm.Cond.code ({ cls := "QuotedRiver$Seen", name := "asks", desc := "()V" } : Jvm.MethodName) prog_9_method_4_code (4 : Nat) (Option.none : Option Jvm.ClassFile.FieldType)) ∈ lw_all := lw_g (lw_at lw_m6 107 rfl) rfl
theorem q1400 : (Jvm.Cond.methodLink "QuotedRiver$Seen" (78 : Nat) ({ cls := "java/lang/Math", name := "max", desc := "(II)I" } : Jvm.MethodName)) ∈ lw_all := lw_g (lw_at lw_m6 108 rfl) rfl
theorem q2320 : (Jvm.Cond.castable "QuotedRiver$Seen" "java/lang/Object") ∈ lw_tbl := lw_at lw_m10 68 rfl
theorem in_X5 : ∀ w ∈ wsX50, w ∈ lw_all := lw_in wsX50 [537, 539, 541, 543, 545, 547, 549] (by decide +kernel) (by decide +kernel)
theorem q102 : (Jvm.Cond.initialized "QuotedRiverModel") ∈ lw_all := lw_g (lw_at lw_m1 10 rfl) rfl
theorem q874 : (Jvm.Cond.selects "QuotedRiverModel" ({ cls := "java/lang/Object", name := "getClass", desc := "()Ljava/lang/Class;" } : Jvm.MethodName) ({ cls := "java/lang/Object", name := "getClass", desc := "()Ljava/lang/Class;" } : Jvm.MethodName)) ∈ lw_all := lw_g (lw_at lw_m4 62 rfl) rfl
theorem q1622 : (Jvm.Cond.instantiable "QuotedRiverModel" (42 : Nat)) ∈ lw_all := lw_g (lw_at lw_m7 90 rfl) rfl
theorem q1624 : (Jvm.Cond.instanceMethod ({ cls := "QuotedRiverModel", name := "<init>", desc := "()V" } : Jvm.MethodName)) ∈ lw_all := lw_g (lw_at lw_m7 92 rfl) rfl
theorem q1625 : (Jvm.Cond.code ({ cls := "QuotedRiverModel", name := "<init>", desc := "()V" } : Jvm.MethodName) prog_14_method_1_code (1 : Nat) (Option.none : Option Jvm.ClassFile.FieldType)) ∈ lw_all := lw_g (lw_at lw_m7 93 rfl) rfl
theorem q1626 : (Jvm.Cond.methodLink "QuotedRiverModel" (3 : Nat) ({ cls := "java/lang/Object", name := "<init>", desc := "()V" } : Jvm.MethodName)) ∈ lw_all := lw_g (lw_at lw_m7 94 rfl) rfl
theorem q1627 : (Jvm.Cond.constant "QuotedRiverModel" (64 : Nat) (37210 : Int32)) ∈ lw_all := lw_g (lw_at lw_m7 95 rfl) rfl
theorem q1628 : (Jvm.Cond.fieldLink "QuotedRiverModel" (9 : Nat) "QuotedRiverModel" "world" "[I") ∈ lw_all := lw_g (lw_at lw_m7 96 rfl) rfl
theorem q1629 : (Jvm.Cond.fieldLink "QuotedRiverModel" (13 : Nat) "QuotedRiverModel" "images" "[I") ∈ lw_all := lw_g (lw_at lw_m7 97 rfl) rfl
theorem q1630 : (Jvm.Cond.fieldLink "QuotedRiverModel" (16 : Nat) "QuotedRiverModel" "hasImage" "[Z") ∈ lw_all := lw_g (lw_at lw_m7 98 rfl) rfl
theorem q1631 : (Jvm.Cond.fieldLink "QuotedRiverModel" (20 : Nat) "QuotedRiverModel" "tape" "[B") ∈ lw_all := lw_g (lw_at lw_m7 99 rfl) rfl
theorem q1632 : (Jvm.Cond.fieldLink "QuotedRiverModel" (98 : Nat) "QuotedRiverModel" "taped" "I") ∈ lw_all := lw_g (lw_at lw_m7 100 rfl) rfl
theorem q1633 : (Jvm.Cond.fieldLink "QuotedRiverModel" (24 : Nat) "QuotedRiverModel" "five" "[I") ∈ lw_all := lw_g (lw_at lw_m7 101 rfl) rfl
theorem q1634 : (Jvm.Cond.fieldLink "QuotedRiverModel" (101 : Nat) "QuotedRiverModel" "size" "I") ∈ lw_all := lw_g (lw_at lw_m7 102 rfl) rfl
theorem q1635 : (Jvm.Cond.fieldLink "QuotedRiverModel" (104 : Nat) "QuotedRiverModel" "at" "I") ∈ lw_all := lw_g (lw_at lw_m7 103 rfl) rfl
theorem q1636 : (Jvm.Cond.fieldLink "QuotedRiverModel" (111 : Nat) "QuotedRiverModel" "from" "I") ∈ lw_all := lw_g (lw_at lw_m7 104 rfl) rfl
theorem q1637 : (Jvm.Cond.fieldLink "QuotedRiverModel" (114 : Nat) "QuotedRiverModel" "token" "I") ∈ lw_all := lw_g (lw_at lw_m7 105 rfl) rfl
theorem q1638 : (Jvm.Cond.fieldLink "QuotedRiverModel" (125 : Nat) "QuotedRiverModel" "value" "I") ∈ lw_all := lw_g (lw_at lw_m7 106 rfl) rfl
theorem q1639 : (Jvm.Cond.fieldLink "QuotedRiverModel" (135 : Nat) "QuotedRiverModel" "faultKind" "I") ∈ lw_all := lw_g (lw_at lw_m7 107 rfl) rfl
theorem q1640 : (Jvm.Cond.fieldLink "QuotedRiverModel" (27 : Nat) "QuotedRiverModel" "faultPlace" "I") ∈ lw_all := lw_g (lw_at lw_m7 108 rfl) rfl
theorem q1641 : (Jvm.Cond.fieldLink "QuotedRiverModel" (31 : Nat) "QuotedRiverModel" "fresh" "[I") ∈ lw_all := lw_g (lw_at lw_m7 109 rfl) rfl
theorem q1642 : (Jvm.Cond.fieldLink "QuotedRiverModel" (34 : Nat) "QuotedRiverModel" "rainAt" "[I") ∈ lw_all := lw_g (lw_at lw_m7 110 rfl) rfl
theorem q1643 : (Jvm.Cond.fieldLink "QuotedRiverModel" (37 : Nat) "QuotedRiverModel" "levelAt" "[I") ∈ lw_all := lw_g (lw_at lw_m7 111 rfl) rfl
theorem q1644 : (Jvm.Cond.fieldLink "QuotedRiverModel" (40 : Nat) "QuotedRiverModel" "standsAt" "[I") ∈ lw_all := lw_g (lw_at lw_m7 112 rfl) rfl
theorem q1645 : (Jvm.Cond.fieldLink "QuotedRiverModel" (43 : Nat) "QuotedRiverModel" "eachOf" "[I") ∈ lw_all := lw_g (lw_at lw_m7 113 rfl) rfl
theorem q1646 : (Jvm.Cond.fieldLink "QuotedRiverModel" (46 : Nat) "QuotedRiverModel" "turnOf" "[I") ∈ lw_all := lw_g (lw_at lw_m7 114 rfl) rfl
theorem q1647 : (Jvm.Cond.fieldLink "QuotedRiverModel" (238 : Nat) "QuotedRiverModel" "shutSet" "I") ∈ lw_all := lw_g (lw_at lw_m7 115 rfl) rfl
theorem q1648 : (Jvm.Cond.fieldLink "QuotedRiverModel" (241 : Nat) "QuotedRiverModel" "stopped" "I") ∈ lw_all := lw_g (lw_at lw_m7 116 rfl) rfl
theorem q1649 : (Jvm.Cond.fieldLink "QuotedRiverModel" (49 : Nat) "QuotedRiverModel" "whereAt" "[I") ∈ lw_all := lw_g (lw_at lw_m7 117 rfl) rfl
theorem q1650 : (Jvm.Cond.fieldLink "QuotedRiverModel" (52 : Nat) "QuotedRiverModel" "arrives" "[Z") ∈ lw_all := lw_g (lw_at lw_m7 118 rfl) rfl
theorem q1651 : (Jvm.Cond.fieldLink "QuotedRiverModel" (268 : Nat) "QuotedRiverModel" "leftMany" "I") ∈ lw_all := lw_g (lw_at lw_m7 119 rfl) rfl
theorem q1652 : (Jvm.Cond.fieldLink "QuotedRiverModel" (271 : Nat) "QuotedRiverModel" "joinMany" "I") ∈ lw_all := lw_g (lw_at lw_m7 120 rfl) rfl
theorem q1653 : (Jvm.Cond.fieldLink "QuotedRiverModel" (274 : Nat) "QuotedRiverModel" "joinSet" "I") ∈ lw_all := lw_g (lw_at lw_m7 121 rfl) rfl
theorem q1654 : (Jvm.Cond.fieldLink "QuotedRiverModel" (55 : Nat) "QuotedRiverModel" "wasAt" "[I") ∈ lw_all := lw_g (lw_at lw_m7 122 rfl) rfl
theorem q1655 : (Jvm.Cond.fieldLink "QuotedRiverModel" (58 : Nat) "QuotedRiverModel" "manyIn" "[I") ∈ lw_all := lw_g (lw_at lw_m7 123 rfl) rfl
theorem q1656 : (Jvm.Cond.fieldLink "QuotedRiverModel" (298 : Nat) "QuotedRiverModel" "quickFrom" "I") ∈ lw_all := lw_g (lw_at lw_m7 124 rfl) rfl
theorem q1657 : (Jvm.Cond.fieldLink "QuotedRiverModel" (61 : Nat) "QuotedRiverModel" "pairs" "[I") ∈ lw_all := lw_g (lw_at lw_m7 125 rfl) rfl
theorem q1658 : (Jvm.Cond.fieldLink "QuotedRiverModel" (65 : Nat) "QuotedRiverModel" "wasBy" "[B") ∈ lw_all := lw_g (lw_at lw_m7 126 rfl) rfl
theorem q1659 : (Jvm.Cond.fieldLink "QuotedRiverModel" (327 : Nat) "QuotedRiverModel" "pairMany" "I") ∈ lw_all := lw_g (lw_at lw_m7 127 rfl) rfl
theorem q1660 : (Jvm.Cond.fieldLink "QuotedRiverModel" (336 : Nat) "QuotedRiverModel" "askWorst" "I") ∈ lw_all := lw_g (lw_at lw_m7 128 rfl) rfl
theorem q1661 : (Jvm.Cond.fieldLink "QuotedRiverModel" (342 : Nat) "QuotedRiverModel" "turnFirst" "I") ∈ lw_all := lw_g (lw_at lw_m7 129 rfl) rfl
theorem q1662 : (Jvm.Cond.fieldLink "QuotedRiverModel" (68 : Nat) "QuotedRiverModel" "weightNow" "[J") ∈ lw_all := lw_g (lw_at lw_m7 130 rfl) rfl
theorem q1663 : (Jvm.Cond.fieldLink "QuotedRiverModel" (72 : Nat) "QuotedRiverModel" "weightThen" "[J") ∈ lw_all := lw_g (lw_at lw_m7 131 rfl) rfl
theorem q1664 : (Jvm.Cond.fieldLink "QuotedRiverModel" (383 : Nat) "QuotedRiverModel" "rainMany" "I") ∈ lw_all := lw_g (lw_at lw_m7 132 rfl) rfl
theorem q1665 : (Jvm.Cond.fieldLink "QuotedRiverModel" (75 : Nat) "QuotedRiverModel" "many" "[I") ∈ lw_all := lw_g (lw_at lw_m7 133 rfl) rfl
theorem q1666 : (Jvm.Cond.fieldLink "QuotedRiverModel" (78 : Nat) "QuotedRiverModel" "width" "[I") ∈ lw_all := lw_g (lw_at lw_m7 134 rfl) rfl
theorem q1667 : (Jvm.Cond.fieldLink "QuotedRiverModel" (81 : Nat) "QuotedRiverModel" "numbers" "[J") ∈ lw_all := lw_g (lw_at lw_m7 135 rfl) rfl
theorem q1668 : (Jvm.Cond.fieldLink "QuotedRiverModel" (84 : Nat) "QuotedRiverModel" "moving" "[J") ∈ lw_all := lw_g (lw_at lw_m7 136 rfl) rfl
theorem q1669 : (Jvm.Cond.lays "QuotedRiverModel" "QuotedRiverModel" "thrown" "I") ∈ lw_all := lw_g (lw_at lw_m7 137 rfl) rfl
theorem q1670 : (Jvm.Cond.soleField "QuotedRiverModel" "thrown") ∈ lw_all := lw_g (lw_at lw_m7 138 rfl) rfl
theorem q1671 : (Jvm.Cond.laysFinal "QuotedRiverModel" "QuotedRiverModel" "world" "[I") ∈ lw_all := lw_g (lw_at lw_m7 139 rfl) rfl
theorem q1672 : (Jvm.Cond.soleField "QuotedRiverModel" "world") ∈ lw_all := lw_g (lw_at lw_m7 140 rfl) rfl
theorem q1673 : (Jvm.Cond.laysFinal "QuotedRiverModel" "QuotedRiverModel" "images" "[I") ∈ lw_all := lw_g (lw_at lw_m7 141 rfl) rfl
theorem q1674 : (Jvm.Cond.soleField "QuotedRiverModel" "images") ∈ lw_all := lw_g (lw_at lw_m7 142 rfl) rfl
theorem q1675 : (Jvm.Cond.laysFinal "QuotedRiverModel" "QuotedRiverModel" "hasImage" "[Z") ∈ lw_all := lw_g (lw_at lw_m7 143 rfl) rfl
theorem q1676 : (Jvm.Cond.soleField "QuotedRiverModel" "hasImage") ∈ lw_all := lw_g (lw_at lw_m7 144 rfl) rfl
theorem q1677 : (Jvm.Cond.laysFinal "QuotedRiverModel" "QuotedRiverModel" "tape" "[B") ∈ lw_all := lw_g (lw_at lw_m7 145 rfl) rfl
theorem q1678 : (Jvm.Cond.soleField "QuotedRiverModel" "tape") ∈ lw_all := lw_g (lw_at lw_m7 146 rfl) rfl
theorem q1679 : (Jvm.Cond.lays "QuotedRiverModel" "QuotedRiverModel" "taped" "I") ∈ lw_all := lw_g (lw_at lw_m7 147 rfl) rfl
theorem q1680 : (Jvm.Cond.soleField "QuotedRiverModel" "taped") ∈ lw_all := lw_g (lw_at lw_m7 148 rfl) rfl
theorem q1681 : (Jvm.Cond.laysFinal "QuotedRiverModel" "QuotedRiverModel" "five" "[I") ∈ lw_all := lw_g (lw_at lw_m7 149 rfl) rfl
theorem q1682 : (Jvm.Cond.soleField "QuotedRiverModel" "five") ∈ lw_all := lw_g (lw_at lw_m7 150 rfl) rfl
theorem q1683 : (Jvm.Cond.lays "QuotedRiverModel" "QuotedRiverModel" "size" "I") ∈ lw_all := lw_g (lw_at lw_m7 151 rfl) rfl
theorem q1684 : (Jvm.Cond.soleField "QuotedRiverModel" "size") ∈ lw_all := lw_g (lw_at lw_m7 152 rfl) rfl
theorem q1685 : (Jvm.Cond.lays "QuotedRiverModel" "QuotedRiverModel" "at" "I") ∈ lw_all := lw_g (lw_at lw_m7 153 rfl) rfl
theorem q1686 : (Jvm.Cond.soleField "QuotedRiverModel" "at") ∈ lw_all := lw_g (lw_at lw_m7 154 rfl) rfl
theorem q1687 : (Jvm.Cond.lays "QuotedRiverModel" "QuotedRiverModel" "from" "I") ∈ lw_all := lw_g (lw_at lw_m7 155 rfl) rfl
theorem q1688 : (Jvm.Cond.soleField "QuotedRiverModel" "from") ∈ lw_all := lw_g (lw_at lw_m7 156 rfl) rfl
theorem q1689 : (Jvm.Cond.lays "QuotedRiverModel" "QuotedRiverModel" "token" "I") ∈ lw_all := lw_g (lw_at lw_m7 157 rfl) rfl
theorem q1690 : (Jvm.Cond.soleField "QuotedRiverModel" "token") ∈ lw_all := lw_g (lw_at lw_m7 158 rfl) rfl
theorem q1691 : (Jvm.Cond.lays "QuotedRiverModel" "QuotedRiverModel" "value" "I") ∈ lw_all := lw_g (lw_at lw_m7 159 rfl) rfl
theorem q1692 : (Jvm.Cond.soleField "QuotedRiverModel" "value") ∈ lw_all := lw_g (lw_at lw_m7 160 rfl) rfl
theorem q1693 : (Jvm.Cond.lays "QuotedRiverModel" "QuotedRiverModel" "faultKind" "I") ∈ lw_all := lw_g (lw_at lw_m7 161 rfl) rfl
theorem q1694 : (Jvm.Cond.soleField "QuotedRiverModel" "faultKind") ∈ lw_all := lw_g (lw_at lw_m7 162 rfl) rfl
theorem q1695 : (Jvm.Cond.lays "QuotedRiverModel" "QuotedRiverModel" "faultPlace" "I") ∈ lw_all := lw_g (lw_at lw_m7 163 rfl) rfl
theorem q1696 : (Jvm.Cond.soleField "QuotedRiverModel" "faultPlace") ∈ lw_all := lw_g (lw_at lw_m7 164 rfl) rfl
theorem q1697 : (Jvm.Cond.laysFinal "QuotedRiverModel" "QuotedRiverModel" "fresh" "[I") ∈ lw_all := lw_g (lw_at lw_m7 165 rfl) rfl
theorem q1698 : (Jvm.Cond.soleField "QuotedRiverModel" "fresh") ∈ lw_all := lw_g (lw_at lw_m7 166 rfl) rfl
theorem q1699 : (Jvm.Cond.laysFinal "QuotedRiverModel" "QuotedRiverModel" "rainAt" "[I") ∈ lw_all := lw_g (lw_at lw_m7 167 rfl) rfl
theorem q1700 : (Jvm.Cond.soleField "QuotedRiverModel" "rainAt") ∈ lw_all := lw_g (lw_at lw_m7 168 rfl) rfl
theorem q1701 : (Jvm.Cond.laysFinal "QuotedRiverModel" "QuotedRiverModel" "levelAt" "[I") ∈ lw_all := lw_g (lw_at lw_m7 169 rfl) rfl
theorem q1702 : (Jvm.Cond.soleField "QuotedRiverModel" "levelAt") ∈ lw_all := lw_g (lw_at lw_m7 170 rfl) rfl
theorem q1703 : (Jvm.Cond.laysFinal "QuotedRiverModel" "QuotedRiverModel" "standsAt" "[I") ∈ lw_all := lw_g (lw_at lw_m7 171 rfl) rfl
theorem q1704 : (Jvm.Cond.soleField "QuotedRiverModel" "standsAt") ∈ lw_all := lw_g (lw_at lw_m7 172 rfl) rfl
theorem q1705 : (Jvm.Cond.laysFinal "QuotedRiverModel" "QuotedRiverModel" "eachOf" "[I") ∈ lw_all := lw_g (lw_at lw_m7 173 rfl) rfl
theorem q1706 : (Jvm.Cond.soleField "QuotedRiverModel" "eachOf") ∈ lw_all := lw_g (lw_at lw_m7 174 rfl) rfl
theorem q1707 : (Jvm.Cond.laysFinal "QuotedRiverModel" "QuotedRiverModel" "turnOf" "[I") ∈ lw_all := lw_g (lw_at lw_m7 175 rfl) rfl
theorem q1708 : (Jvm.Cond.soleField "QuotedRiverModel" "turnOf") ∈ lw_all := lw_g (lw_at lw_m7 176 rfl) rfl
theorem q1709 : (Jvm.Cond.lays "QuotedRiverModel" "QuotedRiverModel" "shutSet" "I") ∈ lw_all := lw_g (lw_at lw_m7 177 rfl) rfl
theorem q1710 : (Jvm.Cond.soleField "QuotedRiverModel" "shutSet") ∈ lw_all := lw_g (lw_at lw_m7 178 rfl) rfl
theorem q1711 : (Jvm.Cond.lays "QuotedRiverModel" "QuotedRiverModel" "stopped" "I") ∈ lw_all := lw_g (lw_at lw_m7 179 rfl) rfl
theorem q1712 : (Jvm.Cond.soleField "QuotedRiverModel" "stopped") ∈ lw_all := lw_g (lw_at lw_m7 180 rfl) rfl
theorem q1713 : (Jvm.Cond.laysFinal "QuotedRiverModel" "QuotedRiverModel" "whereAt" "[I") ∈ lw_all := lw_g (lw_at lw_m7 181 rfl) rfl
theorem q1714 : (Jvm.Cond.soleField "QuotedRiverModel" "whereAt") ∈ lw_all := lw_g (lw_at lw_m7 182 rfl) rfl
theorem q1715 : (Jvm.Cond.laysFinal "QuotedRiverModel" "QuotedRiverModel" "arrives" "[Z") ∈ lw_all := lw_g (lw_at lw_m7 183 rfl) rfl
theorem q1716 : (Jvm.Cond.soleField "QuotedRiverModel" "arrives") ∈ lw_all := lw_g (lw_at lw_m7 184 rfl) rfl
theorem q1717 : (Jvm.Cond.lays "QuotedRiverModel" "QuotedRiverModel" "leftMany" "I") ∈ lw_all := lw_g (lw_at lw_m7 185 rfl) rfl
theorem q1718 : (Jvm.Cond.soleField "QuotedRiverModel" "leftMany") ∈ lw_all := lw_g (lw_at lw_m7 186 rfl) rfl
theorem q1719 : (Jvm.Cond.lays "QuotedRiverModel" "QuotedRiverModel" "joinMany" "I") ∈ lw_all := lw_g (lw_at lw_m7 187 rfl) rfl
theorem q1720 : (Jvm.Cond.soleField "QuotedRiverModel" "joinMany") ∈ lw_all := lw_g (lw_at lw_m7 188 rfl) rfl
theorem q1721 : (Jvm.Cond.lays "QuotedRiverModel" "QuotedRiverModel" "joinSet" "I") ∈ lw_all := lw_g (lw_at lw_m7 189 rfl) rfl
theorem q1722 : (Jvm.Cond.soleField "QuotedRiverModel" "joinSet") ∈ lw_all := lw_g (lw_at lw_m7 190 rfl) rfl
theorem q1723 : (Jvm.Cond.laysFinal "QuotedRiverModel" "QuotedRiverModel" "wasAt" "[I") ∈ lw_all := lw_g (lw_at lw_m7 191 rfl) rfl
theorem q1724 : (Jvm.Cond.soleField "QuotedRiverModel" "wasAt") ∈ lw_all := lw_g (lw_at lw_m7 192 rfl) rfl
theorem q1725 : (Jvm.Cond.laysFinal "QuotedRiverModel" "QuotedRiverModel" "manyIn" "[I") ∈ lw_all := lw_g (lw_at lw_m7 193 rfl) rfl
theorem q1726 : (Jvm.Cond.soleField "QuotedRiverModel" "manyIn") ∈ lw_all := lw_g (lw_at lw_m7 194 rfl) rfl
theorem q1727 : (Jvm.Cond.lays "QuotedRiverModel" "QuotedRiverModel" "quickFrom" "I") ∈ lw_all := lw_g (lw_at lw_m7 195 rfl) rfl
theorem q1728 : (Jvm.Cond.soleField "QuotedRiverModel" "quickFrom") ∈ lw_all := lw_g (lw_at lw_m7 196 rfl) rfl
theorem q1729 : (Jvm.Cond.laysFinal "QuotedRiverModel" "QuotedRiverModel" "pairs" "[I") ∈ lw_all := lw_g (lw_at lw_m7 197 rfl) rfl
theorem q1730 : (Jvm.Cond.soleField "QuotedRiverModel" "pairs") ∈ lw_all := lw_g (lw_at lw_m7 198 rfl) rfl
theorem q1731 : (Jvm.Cond.laysFinal "QuotedRiverModel" "QuotedRiverModel" "wasBy" "[B") ∈ lw_all := lw_g (lw_at lw_m7 199 rfl) rfl
theorem q1732 : (Jvm.Cond.soleField "QuotedRiverModel" "wasBy") ∈ lw_all := lw_g (lw_at lw_m7 200 rfl) rfl
theorem q1733 : (Jvm.Cond.lays "QuotedRiverModel" "QuotedRiverModel" "pairMany" "I") ∈ lw_all := lw_g (lw_at lw_m7 201 rfl) rfl
theorem q1734 : (Jvm.Cond.soleField "QuotedRiverModel" "pairMany") ∈ lw_all := lw_g (lw_at lw_m7 202 rfl) rfl
theorem q1735 : (Jvm.Cond.lays "QuotedRiverModel" "QuotedRiverModel" "askWorst" "I") ∈ lw_all := lw_g (lw_at lw_m7 203 rfl) rfl
theorem q1736 : (Jvm.Cond.soleField "QuotedRiverModel" "askWorst") ∈ lw_all := lw_g (lw_at lw_m7 204 rfl) rfl
theorem q1737 : (Jvm.Cond.lays "QuotedRiverModel" "QuotedRiverModel" "turnFirst" "I") ∈ lw_all := lw_g (lw_at lw_m7 205 rfl) rfl
theorem q1738 : (Jvm.Cond.soleField "QuotedRiverModel" "turnFirst") ∈ lw_all := lw_g (lw_at lw_m7 206 rfl) rfl
theorem q1739 : (Jvm.Cond.laysFinal "QuotedRiverModel" "QuotedRiverModel" "weightNow" "[J") ∈ lw_all := lw_g (lw_at lw_m7 207 rfl) rfl
theorem q1740 : (Jvm.Cond.soleField "QuotedRiverModel" "weightNow") ∈ lw_all := lw_g (lw_at lw_m7 208 rfl) rfl
theorem q1741 : (Jvm.Cond.laysFinal "QuotedRiverModel" "QuotedRiverModel" "weightThen" "[J") ∈ lw_all := lw_g (lw_at lw_m7 209 rfl) rfl
theorem q1742 : (Jvm.Cond.soleField "QuotedRiverModel" "weightThen") ∈ lw_all := lw_g (lw_at lw_m7 210 rfl) rfl
theorem q1743 : (Jvm.Cond.lays "QuotedRiverModel" "QuotedRiverModel" "rainMany" "I") ∈ lw_all := lw_g (lw_at lw_m7 211 rfl) rfl
theorem q1744 : (Jvm.Cond.soleField "QuotedRiverModel" "rainMany") ∈ lw_all := lw_g (lw_at lw_m7 212 rfl) rfl
theorem q1745 : (Jvm.Cond.laysFinal "QuotedRiverModel" "QuotedRiverModel" "many" "[I") ∈ lw_all := lw_g (lw_at lw_m7 213 rfl) rfl
theorem q1746 : (Jvm.Cond.soleField "QuotedRiverModel" "many") ∈ lw_all := lw_g (lw_at lw_m7 214 rfl) rfl
theorem q1747 : (Jvm.Cond.laysFinal "QuotedRiverModel" "QuotedRiverModel" "width" "[I") ∈ lw_all := lw_g (lw_at lw_m7 215 rfl) rfl
theorem q1748 : (Jvm.Cond.soleField "QuotedRiverModel" "width") ∈ lw_all := lw_g (lw_at lw_m7 216 rfl) rfl
theorem q1749 : (Jvm.Cond.laysFinal "QuotedRiverModel" "QuotedRiverModel" "numbers" "[J") ∈ lw_all := lw_g (lw_at lw_m7 217 rfl) rfl
theorem q1750 : (Jvm.Cond.soleField "QuotedRiverModel" "numbers") ∈ lw_all := lw_g (lw_at lw_m7 218 rfl) rfl
theorem q1751 : (Jvm.Cond.laysFinal "QuotedRiverModel" "QuotedRiverModel" "moving" "[J") ∈ lw_all := lw_g (lw_at lw_m7 219 rfl) rfl
theorem q1752 : (Jvm.Cond.soleField "QuotedRiverModel" "moving") ∈ lw_all := lw_g (lw_at lw_m7 220 rfl) rfl
theorem q1753 : (Jvm.Cond.superclass "QuotedRiverModel" "java/lang/Object") ∈ lw_all := lw_g (lw_at lw_m7 221 rfl) rfl
theorem q1756 : (Jvm.Cond.instanceMethod ({ cls := "QuotedRiverModel", name := "image", desc := "(I)I" } : Jvm.MethodName)) ∈ lw_all := lw_g (lw_at lw_m7 224 rfl) rfl
theorem q1757 : (Jvm.Cond.selects "QuotedRiverModel" ({ cls := "QuotedRiverModel", name := "image", desc := "(I)I" } : Jvm.MethodName) ({ cls := "QuotedRiverModel", name := "image", desc := "(I)I" } : Jvm.MethodName)) ∈ lw_all := lw_g (lw_at lw_m7 225 rfl) rfl
theorem q1758 : (Jvm.Cond.code ({ cls := "QuotedRiverModel", name := "image", desc := "(I)I" } : Jvm.MethodName) prog_14_method_6_code (3 : Nat) (Option.some Jvm.ClassFile.FieldType.int)) ∈ lw_all := lw_g (lw_at lw_m7 226 rfl) rfl
theorem q1759 : (Jvm.Cond.constantLong "QuotedRiverModel" (90 : Nat) (2 : Int64)) ∈ lw_all := lw_g (lw_at lw_m7 227 rfl) rfl
theorem q1760 : (Jvm.Cond.methodLink "QuotedRiverModel" (92 : Nat) ({ cls := "QuotedRiverModel", name := "in", desc := "(JJJ)Z" } : Jvm.MethodName)) ∈ lw_all := lw_g (lw_at lw_m7 228 rfl) rfl
theorem q1761 : (Jvm.Cond.static ({ cls := "QuotedRiverModel", name := "in", desc := "(JJJ)Z" } : Jvm.MethodName)) ∈ lw_all := lw_g (lw_at lw_m7 229 rfl) rfl
theorem q1762 : (Jvm.Cond.code ({ cls := "QuotedRiverModel", name := "in", desc := "(JJJ)Z" } : Jvm.MethodName) prog_14_method_3_code (6 : Nat) (Option.some Jvm.ClassFile.FieldType.boolean)) ∈ lw_all := lw_g (lw_at lw_m7 230 rfl) rfl
theorem q1764 : (Jvm.Cond.instanceMethod ({ cls := "QuotedRiverModel", name := "back", desc := "(I)I" } : Jvm.MethodName)) ∈ lw_all := lw_g (lw_at lw_m7 232 rfl) rfl
theorem q1765 : (Jvm.Cond.selects "QuotedRiverModel" ({ cls := "QuotedRiverModel", name := "back", desc := "(I)I" } : Jvm.MethodName) ({ cls := "QuotedRiverModel", name := "back", desc := "(I)I" } : Jvm.MethodName)) ∈ lw_all := lw_g (lw_at lw_m7 233 rfl) rfl
theorem q1766 : (Jvm.Cond.code ({ cls := "QuotedRiverModel", name := "back", desc := "(I)I" } : Jvm.MethodName) prog_14_method_7_code (3 : Nat) (Option.some Jvm.ClassFile.FieldType.int)) ∈ lw_all := lw_g (lw_at lw_m7 234 rfl) rfl
theorem q1768 : (Jvm.Cond.instanceMethod ({ cls := "QuotedRiverModel", name := "feed", desc := "(IIIII)I" } : Jvm.MethodName)) ∈ lw_all := lw_g (lw_at lw_m7 236 rfl) rfl
theorem q1769 : (Jvm.Cond.selects "QuotedRiverModel" ({ cls := "QuotedRiverModel", name := "feed", desc := "(IIIII)I" } : Jvm.MethodName) ({ cls := "QuotedRiverModel", name := "feed", desc := "(IIIII)I" } : Jvm.MethodName)) ∈ lw_all := lw_g (lw_at lw_m7 237 rfl) rfl
theorem q1770 : (Jvm.Cond.code ({ cls := "QuotedRiverModel", name := "feed", desc := "(IIIII)I" } : Jvm.MethodName) prog_14_method_14_code (7 : Nat) (Option.some Jvm.ClassFile.FieldType.int)) ∈ lw_all := lw_g (lw_at lw_m7 238 rfl) rfl
theorem q1772 : (Jvm.Cond.instanceMethod ({ cls := "QuotedRiverModel", name := "end", desc := "(I)I" } : Jvm.MethodName)) ∈ lw_all := lw_g (lw_at lw_m8 0 rfl) rfl
theorem q1773 : (Jvm.Cond.selects "QuotedRiverModel" ({ cls := "QuotedRiverModel", name := "end", desc := "(I)I" } : Jvm.MethodName) ({ cls := "QuotedRiverModel", name := "end", desc := "(I)I" } : Jvm.MethodName)) ∈ lw_all := lw_g (lw_at lw_m8 1 rfl) rfl
theorem q1774 : (Jvm.Cond.code ({ cls := "QuotedRiverModel", name := "end", desc := "(I)I" } : Jvm.MethodName) prog_14_method_15_code (2 : Nat) (Option.some Jvm.ClassFile.FieldType.int)) ∈ lw_all := lw_g (lw_at lw_m8 2 rfl) rfl
theorem q1776 : (Jvm.Cond.instanceMethod ({ cls := "QuotedRiverModel", name := "fault", desc := "(I)I" } : Jvm.MethodName)) ∈ lw_all := lw_g (lw_at lw_m8 4 rfl) rfl
theorem q1777 : (Jvm.Cond.selects "QuotedRiverModel" ({ cls := "QuotedRiverModel", name := "fault", desc := "(I)I" } : Jvm.MethodName) ({ cls := "QuotedRiverModel", name := "fault", desc := "(I)I" } : Jvm.MethodName)) ∈ lw_all := lw_g (lw_at lw_m8 5 rfl) rfl
theorem q1778 : (Jvm.Cond.code ({ cls := "QuotedRiverModel", name := "fault", desc := "(I)I" } : Jvm.MethodName) prog_14_method_25_code (2 : Nat) (Option.some Jvm.ClassFile.FieldType.int)) ∈ lw_all := lw_g (lw_at lw_m8 6 rfl) rfl
theorem q1780 : (Jvm.Cond.instanceMethod ({ cls := "QuotedRiverModel", name := "rivers", desc := "()I" } : Jvm.MethodName)) ∈ lw_all := lw_g (lw_at lw_m8 8 rfl) rfl
theorem q1781 : (Jvm.Cond.selects "QuotedRiverModel" ({ cls := "QuotedRiverModel", name := "rivers", desc := "()I" } : Jvm.MethodName) ({ cls := "QuotedRiverModel", name := "rivers", desc := "()I" } : Jvm.MethodName)) ∈ lw_all := lw_g (lw_at lw_m8 9 rfl) rfl
theorem q1782 : (Jvm.Cond.code ({ cls := "QuotedRiverModel", name := "rivers", desc := "()I" } : Jvm.MethodName) prog_14_method_32_code (2 : Nat) (Option.some Jvm.ClassFile.FieldType.int)) ∈ lw_all := lw_g (lw_at lw_m8 10 rfl) rfl
theorem q1783 : (Jvm.Cond.methodLink "QuotedRiverModel" (156 : Nat) ({ cls := "QuotedRiverModel", name := "advance", desc := "()V" } : Jvm.MethodName)) ∈ lw_all := lw_g (lw_at lw_m8 11 rfl) rfl
theorem q1784 : (Jvm.Cond.privateMethod ({ cls := "QuotedRiverModel", name := "advance", desc := "()V" } : Jvm.MethodName)) ∈ lw_tbl := lw_at lw_m8 12 rfl
theorem q1785 : (Jvm.Cond.instanceMethod ({ cls := "QuotedRiverModel", name := "advance", desc := "()V" } : Jvm.MethodName)) ∈ lw_all := lw_g (lw_at lw_m8 13 rfl) rfl
theorem q1786 : (Jvm.Cond.code ({ cls := "QuotedRiverModel", name := "advance", desc := "()V" } : Jvm.MethodName) prog_14_method_17_code (2 : Nat) (Option.none : Option Jvm.ClassFile.FieldType)) ∈ lw_all := lw_g (lw_at lw_m8 14 rfl) rfl
theorem q1787 : (Jvm.Cond.methodLink "QuotedRiverModel" (107 : Nat) ({ cls := "QuotedRiverModel", name := "see", desc := "(I)I" } : Jvm.MethodName)) ∈ lw_all := lw_g (lw_at lw_m8 15 rfl) rfl
theorem q1788 : (Jvm.Cond.privateMethod ({ cls := "QuotedRiverModel", name := "see", desc := "(I)I" } : Jvm.MethodName)) ∈ lw_tbl := lw_at lw_m8 16 rfl
theorem q1789 : (Jvm.Cond.instanceMethod ({ cls := "QuotedRiverModel", name := "see", desc := "(I)I" } : Jvm.MethodName)) ∈ lw_all := lw_g (lw_at lw_m8 17 rfl) rfl
theorem q1790 : (Jvm.Cond.code ({ cls := "QuotedRiverModel", name := "see", desc := "(I)I" } : Jvm.MethodName) prog_14_method_16_code (2 : Nat) (Option.some Jvm.ClassFile.FieldType.int)) ∈ lw_all := lw_g (lw_at lw_m8 18 rfl) rfl
theorem q1791 : (Jvm.Cond.constantLong "QuotedRiverModel" (117 : Nat) (97 : Int64)) ∈ lw_all := lw_g (lw_at lw_m8 19 rfl) rfl
theorem q1792 : (Jvm.Cond.constantLong "QuotedRiverModel" (119 : Nat) (122 : Int64)) ∈ lw_all := lw_g (lw_at lw_m8 20 rfl) rfl
theorem q1793 : (Jvm.Cond.constantLong "QuotedRiverModel" (121 : Nat) (48 : Int64)) ∈ lw_all := lw_g (lw_at lw_m8 21 rfl) rfl
theorem q1794 : (Jvm.Cond.constantLong "QuotedRiverModel" (123 : Nat) (57 : Int64)) ∈ lw_all := lw_g (lw_at lw_m8 22 rfl) rfl
theorem q1795 : (Jvm.Cond.constant "QuotedRiverModel" (128 : Nat) (99999 : Int32)) ∈ lw_all := lw_g (lw_at lw_m8 23 rfl) rfl
theorem q1796 : (Jvm.Cond.methodLink "QuotedRiverModel" (129 : Nat) ({ cls := "java/lang/Math", name := "min", desc := "(II)I" } : Jvm.MethodName)) ∈ lw_all := lw_g (lw_at lw_m8 24 rfl) rfl
theorem q1797 : (Jvm.Cond.methodLink "QuotedRiverModel" (138 : Nat) ({ cls := "QuotedRiverModel", name := "good", desc := "()Z" } : Jvm.MethodName)) ∈ lw_all := lw_g (lw_at lw_m8 25 rfl) rfl
theorem q1798 : (Jvm.Cond.privateMethod ({ cls := "QuotedRiverModel", name := "good", desc := "()Z" } : Jvm.MethodName)) ∈ lw_tbl := lw_at lw_m8 26 rfl
theorem q1799 : (Jvm.Cond.instanceMethod ({ cls := "QuotedRiverModel", name := "good", desc := "()Z" } : Jvm.MethodName)) ∈ lw_all := lw_g (lw_at lw_m8 27 rfl) rfl
theorem q1800 : (Jvm.Cond.code ({ cls := "QuotedRiverModel", name := "good", desc := "()Z" } : Jvm.MethodName) prog_14_method_18_code (1 : Nat) (Option.some Jvm.ClassFile.FieldType.boolean)) ∈ lw_all := lw_g (lw_at lw_m8 28 rfl) rfl
theorem q1801 : (Jvm.Cond.methodLink "QuotedRiverModel" (216 : Nat) ({ cls := "QuotedRiverModel", name := "readLine", desc := "()V" } : Jvm.MethodName)) ∈ lw_all := lw_g (lw_at lw_m8 29 rfl) rfl
theorem q1802 : (Jvm.Cond.privateMethod ({ cls := "QuotedRiverModel", name := "readLine", desc := "()V" } : Jvm.MethodName)) ∈ lw_tbl := lw_at lw_m8 30 rfl
theorem q1803 : (Jvm.Cond.instanceMethod ({ cls := "QuotedRiverModel", name := "readLine", desc := "()V" } : Jvm.MethodName)) ∈ lw_all := lw_g (lw_at lw_m8 31 rfl) rfl
theorem q1804 : (Jvm.Cond.code ({ cls := "QuotedRiverModel", name := "readLine", desc := "()V" } : Jvm.MethodName) prog_14_method_31_code (1 : Nat) (Option.none : Option Jvm.ClassFile.FieldType)) ∈ lw_all := lw_g (lw_at lw_m8 32 rfl) rfl
theorem q1805 : (Jvm.Cond.methodLink "QuotedRiverModel" (210 : Nat) ({ cls := "QuotedRiverModel", name := "readFirst", desc := "()V" } : Jvm.MethodName)) ∈ lw_all := lw_g (lw_at lw_m8 33 rfl) rfl
theorem q1806 : (Jvm.Cond.privateMethod ({ cls := "QuotedRiverModel", name := "readFirst", desc := "()V" } : Jvm.MethodName)) ∈ lw_tbl := lw_at lw_m8 34 rfl
theorem q1807 : (Jvm.Cond.instanceMethod ({ cls := "QuotedRiverModel", name := "readFirst", desc := "()V" } : Jvm.MethodName)) ∈ lw_all := lw_g (lw_at lw_m8 35 rfl) rfl
theorem q1808 : (Jvm.Cond.code ({ cls := "QuotedRiverModel", name := "readFirst", desc := "()V" } : Jvm.MethodName) prog_14_method_26_code (1 : Nat) (Option.none : Option Jvm.ClassFile.FieldType)) ∈ lw_all := lw_g (lw_at lw_m8 36 rfl) rfl
theorem q1809 : (Jvm.Cond.stringRef "QuotedRiverModel" (173 : Nat) "rivers") ∈ lw_tbl := lw_at lw_m8 37 rfl
theorem q1810 : (Jvm.Cond.methodLink "QuotedRiverModel" (166 : Nat) ({ cls := "QuotedRiverModel", name := "needs", desc := "(Ljava/lang/String;)V" } : Jvm.MethodName)) ∈ lw_all := lw_g (lw_at lw_m8 38 rfl) rfl
theorem q1811 : (Jvm.Cond.privateMethod ({ cls := "QuotedRiverModel", name := "needs", desc := "(Ljava/lang/String;)V" } : Jvm.MethodName)) ∈ lw_tbl := lw_at lw_m8 39 rfl
theorem q1812 : (Jvm.Cond.instanceMethod ({ cls := "QuotedRiverModel", name := "needs", desc := "(Ljava/lang/String;)V" } : Jvm.MethodName)) ∈ lw_all := lw_g (lw_at lw_m8 40 rfl) rfl
theorem q1813 : (Jvm.Cond.code ({ cls := "QuotedRiverModel", name := "needs", desc := "(Ljava/lang/String;)V" } : Jvm.MethodName) prog_14_method_22_code (2 : Nat) (Option.none : Option Jvm.ClassFile.FieldType)) ∈ lw_all := lw_g (lw_at lw_m8 41 rfl) rfl
theorem q1814 : (Jvm.Cond.methodLink "QuotedRiverModel" (159 : Nat) ({ cls := "QuotedRiverModel", name := "takes", desc := "(Ljava/lang/String;)Z" } : Jvm.MethodName)) ∈ lw_all := lw_g (lw_at lw_m8 42 rfl) rfl
theorem q1815 : (Jvm.Cond.privateMethod ({ cls := "QuotedRiverModel", name := "takes", desc := "(Ljava/lang/String;)Z" } : Jvm.MethodName)) ∈ lw_tbl := lw_at lw_m8 43 rfl
theorem q1816 : (Jvm.Cond.instanceMethod ({ cls := "QuotedRiverModel", name := "takes", desc := "(Ljava/lang/String;)Z" } : Jvm.MethodName)) ∈ lw_all := lw_g (lw_at lw_m8 44 rfl) rfl
theorem q1817 : (Jvm.Cond.code ({ cls := "QuotedRiverModel", name := "takes", desc := "(Ljava/lang/String;)Z" } : Jvm.MethodName) prog_14_method_21_code (3 : Nat) (Option.some Jvm.ClassFile.FieldType.boolean)) ∈ lw_all := lw_g (lw_at lw_m8 45 rfl) rfl
theorem q1818 : (Jvm.Cond.methodLink "QuotedRiverModel" (152 : Nat) ({ cls := "QuotedRiverModel", name := "is", desc := "(Ljava/lang/String;)Z" } : Jvm.MethodName)) ∈ lw_all := lw_g (lw_at lw_m8 46 rfl) rfl
theorem q1819 : (Jvm.Cond.privateMethod ({ cls := "QuotedRiverModel", name := "is", desc := "(Ljava/lang/String;)Z" } : Jvm.MethodName)) ∈ lw_tbl := lw_at lw_m8 47 rfl
theorem q1820 : (Jvm.Cond.instanceMethod ({ cls := "QuotedRiverModel", name := "is", desc := "(Ljava/lang/String;)Z" } : Jvm.MethodName)) ∈ lw_all := lw_g (lw_at lw_m8 48 rfl) rfl
theorem q1821 : (Jvm.Cond.code ({ cls := "QuotedRiverModel", name := "is", desc := "(Ljava/lang/String;)Z" } : Jvm.MethodName) prog_14_method_20_code (4 : Nat) (Option.some Jvm.ClassFile.FieldType.boolean)) ∈ lw_all := lw_g (lw_at lw_m8 49 rfl) rfl
theorem q1822 : (Jvm.Cond.methodLink "QuotedRiverModel" (142 : Nat) ({ cls := "java/lang/String", name := "length", desc := "()I" } : Jvm.MethodName)) ∈ lw_all := lw_g (lw_at lw_m8 50 rfl) rfl
theorem q1823 : (Jvm.Cond.methodLink "QuotedRiverModel" (148 : Nat) ({ cls := "java/lang/String", name := "charAt", desc := "(I)C" } : Jvm.MethodName)) ∈ lw_all := lw_g (lw_at lw_m8 51 rfl) rfl
theorem q1824 : (Jvm.Cond.methodLink "QuotedRiverModel" (162 : Nat) ({ cls := "QuotedRiverModel", name := "errs", desc := "(I)V" } : Jvm.MethodName)) ∈ lw_all := lw_g (lw_at lw_m8 52 rfl) rfl
theorem q1825 : (Jvm.Cond.privateMethod ({ cls := "QuotedRiverModel", name := "errs", desc := "(I)V" } : Jvm.MethodName)) ∈ lw_tbl := lw_at lw_m8 53 rfl
theorem q1826 : (Jvm.Cond.instanceMethod ({ cls := "QuotedRiverModel", name := "errs", desc := "(I)V" } : Jvm.MethodName)) ∈ lw_all := lw_g (lw_at lw_m8 54 rfl) rfl
theorem q1827 : (Jvm.Cond.code ({ cls := "QuotedRiverModel", name := "errs", desc := "(I)V" } : Jvm.MethodName) prog_14_method_19_code (2 : Nat) (Option.none : Option Jvm.ClassFile.FieldType)) ∈ lw_all := lw_g (lw_at lw_m8 55 rfl) rfl
theorem q1828 : (Jvm.Cond.stringRef "QuotedRiverModel" (175 : Nat) "level") ∈ lw_tbl := lw_at lw_m8 56 rfl
theorem q1829 : (Jvm.Cond.methodLink "QuotedRiverModel" (177 : Nat) ({ cls := "QuotedRiverModel", name := "told", desc := "(Ljava/lang/String;II)I" } : Jvm.MethodName)) ∈ lw_all := lw_g (lw_at lw_m8 57 rfl) rfl
theorem q1830 : (Jvm.Cond.privateMethod ({ cls := "QuotedRiverModel", name := "told", desc := "(Ljava/lang/String;II)I" } : Jvm.MethodName)) ∈ lw_tbl := lw_at lw_m8 58 rfl
theorem q1831 : (Jvm.Cond.instanceMethod ({ cls := "QuotedRiverModel", name := "told", desc := "(Ljava/lang/String;II)I" } : Jvm.MethodName)) ∈ lw_all := lw_g (lw_at lw_m8 59 rfl) rfl
theorem q1832 : (Jvm.Cond.code ({ cls := "QuotedRiverModel", name := "told", desc := "(Ljava/lang/String;II)I" } : Jvm.MethodName) prog_14_method_24_code (4 : Nat) (Option.some Jvm.ClassFile.FieldType.int)) ∈ lw_all := lw_g (lw_at lw_m8 60 rfl) rfl
theorem q1833 : (Jvm.Cond.methodLink "QuotedRiverModel" (170 : Nat) ({ cls := "QuotedRiverModel", name := "number", desc := "(II)I" } : Jvm.MethodName)) ∈ lw_all := lw_g (lw_at lw_m8 61 rfl) rfl
theorem q1834 : (Jvm.Cond.privateMethod ({ cls := "QuotedRiverModel", name := "number", desc := "(II)I" } : Jvm.MethodName)) ∈ lw_tbl := lw_at lw_m8 62 rfl
theorem q1835 : (Jvm.Cond.instanceMethod ({ cls := "QuotedRiverModel", name := "number", desc := "(II)I" } : Jvm.MethodName)) ∈ lw_all := lw_g (lw_at lw_m8 63 rfl) rfl
theorem q1836 : (Jvm.Cond.code ({ cls := "QuotedRiverModel", name := "number", desc := "(II)I" } : Jvm.MethodName) prog_14_method_23_code (4 : Nat) (Option.some Jvm.ClassFile.FieldType.int)) ∈ lw_all := lw_g (lw_at lw_m8 64 rfl) rfl
theorem q1837 : (Jvm.Cond.stringRef "QuotedRiverModel" (181 : Nat) "odds") ∈ lw_tbl := lw_at lw_m8 65 rfl
theorem q1838 : (Jvm.Cond.stringRef "QuotedRiverModel" (183 : Nat) "swell") ∈ lw_tbl := lw_at lw_m8 66 rfl
theorem q1839 : (Jvm.Cond.methodLink "QuotedRiverModel" (213 : Nat) ({ cls := "QuotedRiverModel", name := "readNext", desc := "()V" } : Jvm.MethodName)) ∈ lw_all := lw_g (lw_at lw_m8 67 rfl) rfl
theorem q1840 : (Jvm.Cond.privateMethod ({ cls := "QuotedRiverModel", name := "readNext", desc := "()V" } : Jvm.MethodName)) ∈ lw_tbl := lw_at lw_m8 68 rfl
theorem q1841 : (Jvm.Cond.instanceMethod ({ cls := "QuotedRiverModel", name := "readNext", desc := "()V" } : Jvm.MethodName)) ∈ lw_all := lw_g (lw_at lw_m8 69 rfl) rfl
theorem q1842 : (Jvm.Cond.code ({ cls := "QuotedRiverModel", name := "readNext", desc := "()V" } : Jvm.MethodName) prog_14_method_30_code (1 : Nat) (Option.none : Option Jvm.ClassFile.FieldType)) ∈ lw_all := lw_g (lw_at lw_m8 70 rfl) rfl
theorem q1843 : (Jvm.Cond.stringRef "QuotedRiverModel" (195 : Nat) "reach") ∈ lw_tbl := lw_at lw_m8 71 rfl
theorem q1844 : (Jvm.Cond.stringRef "QuotedRiverModel" (197 : Nat) "join") ∈ lw_tbl := lw_at lw_m8 72 rfl
theorem q1845 : (Jvm.Cond.stringRef "QuotedRiverModel" (199 : Nat) "rain") ∈ lw_tbl := lw_at lw_m8 73 rfl
theorem q1846 : (Jvm.Cond.methodLink "QuotedRiverModel" (201 : Nat) ({ cls := "QuotedRiverModel", name := "readReach", desc := "()V" } : Jvm.MethodName)) ∈ lw_all := lw_g (lw_at lw_m8 74 rfl) rfl
theorem q1847 : (Jvm.Cond.privateMethod ({ cls := "QuotedRiverModel", name := "readReach", desc := "()V" } : Jvm.MethodName)) ∈ lw_tbl := lw_at lw_m8 75 rfl
theorem q1848 : (Jvm.Cond.instanceMethod ({ cls := "QuotedRiverModel", name := "readReach", desc := "()V" } : Jvm.MethodName)) ∈ lw_all := lw_g (lw_at lw_m8 76 rfl) rfl
theorem q1849 : (Jvm.Cond.code ({ cls := "QuotedRiverModel", name := "readReach", desc := "()V" } : Jvm.MethodName) prog_14_method_27_code (3 : Nat) (Option.none : Option Jvm.ClassFile.FieldType)) ∈ lw_all := lw_g (lw_at lw_m8 77 rfl) rfl
theorem q1850 : (Jvm.Cond.stringRef "QuotedRiverModel" (185 : Nat) "to") ∈ lw_tbl := lw_at lw_m8 78 rfl
theorem q1851 : (Jvm.Cond.stringRef "QuotedRiverModel" (187 : Nat) "sea") ∈ lw_tbl := lw_at lw_m8 79 rfl
theorem q1852 : (Jvm.Cond.stringRef "QuotedRiverModel" (189 : Nat) "takes") ∈ lw_tbl := lw_at lw_m8 80 rfl
theorem q1853 : (Jvm.Cond.stringRef "QuotedRiverModel" (190 : Nat) "low") ∈ lw_tbl := lw_at lw_m8 81 rfl
theorem q1854 : (Jvm.Cond.methodLink "QuotedRiverModel" (204 : Nat) ({ cls := "QuotedRiverModel", name := "readJoin", desc := "()V" } : Jvm.MethodName)) ∈ lw_all := lw_g (lw_at lw_m8 82 rfl) rfl
theorem q1855 : (Jvm.Cond.privateMethod ({ cls := "QuotedRiverModel", name := "readJoin", desc := "()V" } : Jvm.MethodName)) ∈ lw_tbl := lw_at lw_m8 83 rfl
theorem q1856 : (Jvm.Cond.instanceMethod ({ cls := "QuotedRiverModel", name := "readJoin", desc := "()V" } : Jvm.MethodName)) ∈ lw_all := lw_g (lw_at lw_m8 84 rfl) rfl
theorem q1857 : (Jvm.Cond.code ({ cls := "QuotedRiverModel", name := "readJoin", desc := "()V" } : Jvm.MethodName) prog_14_method_28_code (2 : Nat) (Option.none : Option Jvm.ClassFile.FieldType)) ∈ lw_all := lw_g (lw_at lw_m8 85 rfl) rfl
theorem q1858 : (Jvm.Cond.stringRef "QuotedRiverModel" (192 : Nat) "each") ∈ lw_tbl := lw_at lw_m8 86 rfl
theorem q1859 : (Jvm.Cond.stringRef "QuotedRiverModel" (194 : Nat) "at") ∈ lw_tbl := lw_at lw_m8 87 rfl
theorem q1860 : (Jvm.Cond.methodLink "QuotedRiverModel" (207 : Nat) ({ cls := "QuotedRiverModel", name := "readRain", desc := "()V" } : Jvm.MethodName)) ∈ lw_all := lw_g (lw_at lw_m8 88 rfl) rfl
theorem q1861 : (Jvm.Cond.privateMethod ({ cls := "QuotedRiverModel", name := "readRain", desc := "()V" } : Jvm.MethodName)) ∈ lw_tbl := lw_at lw_m8 89 rfl
theorem q1862 : (Jvm.Cond.instanceMethod ({ cls := "QuotedRiverModel", name := "readRain", desc := "()V" } : Jvm.MethodName)) ∈ lw_all := lw_g (lw_at lw_m8 90 rfl) rfl
theorem q1863 : (Jvm.Cond.code ({ cls := "QuotedRiverModel", name := "readRain", desc := "()V" } : Jvm.MethodName) prog_14_method_29_code (2 : Nat) (Option.none : Option Jvm.ClassFile.FieldType)) ∈ lw_all := lw_g (lw_at lw_m8 91 rfl) rfl
theorem q1865 : (Jvm.Cond.instanceMethod ({ cls := "QuotedRiverModel", name := "reach", desc := "(II)I" } : Jvm.MethodName)) ∈ lw_all := lw_g (lw_at lw_m8 93 rfl) rfl
theorem q1866 : (Jvm.Cond.selects "QuotedRiverModel" ({ cls := "QuotedRiverModel", name := "reach", desc := "(II)I" } : Jvm.MethodName) ({ cls := "QuotedRiverModel", name := "reach", desc := "(II)I" } : Jvm.MethodName)) ∈ lw_all := lw_g (lw_at lw_m8 94 rfl) rfl
theorem q1867 : (Jvm.Cond.code ({ cls := "QuotedRiverModel", name := "reach", desc := "(II)I" } : Jvm.MethodName) prog_14_method_33_code (3 : Nat) (Option.some Jvm.ClassFile.FieldType.int)) ∈ lw_all := lw_g (lw_at lw_m8 95 rfl) rfl
theorem q1868 : (Jvm.Cond.methodLink "QuotedRiverModel" (219 : Nat) ({ cls := "QuotedRiverModel", name := "isReach", desc := "(J)Z" } : Jvm.MethodName)) ∈ lw_all := lw_g (lw_at lw_m8 96 rfl) rfl
theorem q1869 : (Jvm.Cond.privateMethod ({ cls := "QuotedRiverModel", name := "isReach", desc := "(J)Z" } : Jvm.MethodName)) ∈ lw_tbl := lw_at lw_m8 97 rfl
theorem q1870 : (Jvm.Cond.instanceMethod ({ cls := "QuotedRiverModel", name := "isReach", desc := "(J)Z" } : Jvm.MethodName)) ∈ lw_all := lw_g (lw_at lw_m8 98 rfl) rfl
theorem q1871 : (Jvm.Cond.code ({ cls := "QuotedRiverModel", name := "isReach", desc := "(J)Z" } : Jvm.MethodName) prog_14_method_9_code (3 : Nat) (Option.some Jvm.ClassFile.FieldType.boolean)) ∈ lw_all := lw_g (lw_at lw_m8 99 rfl) rfl
theorem q1872 : (Jvm.Cond.methodLink "QuotedRiverModel" (223 : Nat) ({ cls := "QuotedRiverModel", name := "of", desc := "(II)I" } : Jvm.MethodName)) ∈ lw_all := lw_g (lw_at lw_m8 100 rfl) rfl
theorem q1873 : (Jvm.Cond.privateMethod ({ cls := "QuotedRiverModel", name := "of", desc := "(II)I" } : Jvm.MethodName)) ∈ lw_tbl := lw_at lw_m8 101 rfl
theorem q1874 : (Jvm.Cond.instanceMethod ({ cls := "QuotedRiverModel", name := "of", desc := "(II)I" } : Jvm.MethodName)) ∈ lw_all := lw_g (lw_at lw_m8 102 rfl) rfl
theorem q1875 : (Jvm.Cond.code ({ cls := "QuotedRiverModel", name := "of", desc := "(II)I" } : Jvm.MethodName) prog_14_method_12_code (3 : Nat) (Option.some Jvm.ClassFile.FieldType.int)) ∈ lw_all := lw_g (lw_at lw_m8 103 rfl) rfl
theorem q1877 : (Jvm.Cond.instanceMethod ({ cls := "QuotedRiverModel", name := "rain", desc := "(II)I" } : Jvm.MethodName)) ∈ lw_all := lw_g (lw_at lw_m8 105 rfl) rfl
theorem q1878 : (Jvm.Cond.selects "QuotedRiverModel" ({ cls := "QuotedRiverModel", name := "rain", desc := "(II)I" } : Jvm.MethodName) ({ cls := "QuotedRiverModel", name := "rain", desc := "(II)I" } : Jvm.MethodName)) ∈ lw_all := lw_g (lw_at lw_m8 106 rfl) rfl
theorem q1879 : (Jvm.Cond.code ({ cls := "QuotedRiverModel", name := "rain", desc := "(II)I" } : Jvm.MethodName) prog_14_method_34_code (3 : Nat) (Option.some Jvm.ClassFile.FieldType.int)) ∈ lw_all := lw_g (lw_at lw_m8 107 rfl) rfl
theorem q1881 : (Jvm.Cond.instanceMethod ({ cls := "QuotedRiverModel", name := "join", desc := "(II)I" } : Jvm.MethodName)) ∈ lw_all := lw_g (lw_at lw_m8 109 rfl) rfl
theorem q1882 : (Jvm.Cond.selects "QuotedRiverModel" ({ cls := "QuotedRiverModel", name := "join", desc := "(II)I" } : Jvm.MethodName) ({ cls := "QuotedRiverModel", name := "join", desc := "(II)I" } : Jvm.MethodName)) ∈ lw_all := lw_g (lw_at lw_m8 110 rfl) rfl
theorem q1883 : (Jvm.Cond.code ({ cls := "QuotedRiverModel", name := "join", desc := "(II)I" } : Jvm.MethodName) prog_14_method_35_code (3 : Nat) (Option.some Jvm.ClassFile.FieldType.int)) ∈ lw_all := lw_g (lw_at lw_m8 111 rfl) rfl
theorem q1884 : (Jvm.Cond.methodLink "QuotedRiverModel" (226 : Nat) ({ cls := "QuotedRiverModel", name := "isJoin", desc := "(I)Z" } : Jvm.MethodName)) ∈ lw_all := lw_g (lw_at lw_m8 112 rfl) rfl
theorem q1885 : (Jvm.Cond.privateMethod ({ cls := "QuotedRiverModel", name := "isJoin", desc := "(I)Z" } : Jvm.MethodName)) ∈ lw_tbl := lw_at lw_m8 113 rfl
theorem q1886 : (Jvm.Cond.instanceMethod ({ cls := "QuotedRiverModel", name := "isJoin", desc := "(I)Z" } : Jvm.MethodName)) ∈ lw_all := lw_g (lw_at lw_m8 114 rfl) rfl
theorem q1887 : (Jvm.Cond.code ({ cls := "QuotedRiverModel", name := "isJoin", desc := "(I)Z" } : Jvm.MethodName) prog_14_method_10_code (2 : Nat) (Option.some Jvm.ClassFile.FieldType.boolean)) ∈ lw_all := lw_g (lw_at lw_m8 115 rfl) rfl
theorem q1888 : (Jvm.Cond.constantLong "QuotedRiverModel" (230 : Nat) (3 : Int64)) ∈ lw_all := lw_g (lw_at lw_m8 116 rfl) rfl
theorem q1889 : (Jvm.Cond.methodLink "QuotedRiverModel" (232 : Nat) ({ cls := "QuotedRiverModel", name := "ofJoin", desc := "(II)I" } : Jvm.MethodName)) ∈ lw_all := lw_g (lw_at lw_m8 117 rfl) rfl
theorem q1890 : (Jvm.Cond.privateMethod ({ cls := "QuotedRiverModel", name := "ofJoin", desc := "(II)I" } : Jvm.MethodName)) ∈ lw_tbl := lw_at lw_m8 118 rfl
theorem q1891 : (Jvm.Cond.instanceMethod ({ cls := "QuotedRiverModel", name := "ofJoin", desc := "(II)I" } : Jvm.MethodName)) ∈ lw_all := lw_g (lw_at lw_m8 119 rfl) rfl
theorem q1892 : (Jvm.Cond.code ({ cls := "QuotedRiverModel", name := "ofJoin", desc := "(II)I" } : Jvm.MethodName) prog_14_method_13_code (3 : Nat) (Option.some Jvm.ClassFile.FieldType.int)) ∈ lw_all := lw_g (lw_at lw_m8 120 rfl) rfl
theorem q1894 : (Jvm.Cond.instanceMethod ({ cls := "QuotedRiverModel", name := "level", desc := "(I)I" } : Jvm.MethodName)) ∈ lw_all := lw_g (lw_at lw_m8 122 rfl) rfl
theorem q1895 : (Jvm.Cond.selects "QuotedRiverModel" ({ cls := "QuotedRiverModel", name := "level", desc := "(I)I" } : Jvm.MethodName) ({ cls := "QuotedRiverModel", name := "level", desc := "(I)I" } : Jvm.MethodName)) ∈ lw_all := lw_g (lw_at lw_m8 123 rfl) rfl
theorem q1896 : (Jvm.Cond.code ({ cls := "QuotedRiverModel", name := "level", desc := "(I)I" } : Jvm.MethodName) prog_14_method_40_code (2 : Nat) (Option.some Jvm.ClassFile.FieldType.int)) ∈ lw_all := lw_g (lw_at lw_m8 124 rfl) rfl
theorem q1897 : (Jvm.Cond.methodLink "QuotedRiverModel" (253 : Nat) ({ cls := "QuotedRiverModel", name := "asksRivers", desc := "()Z" } : Jvm.MethodName)) ∈ lw_all := lw_g (lw_at lw_m8 125 rfl) rfl
theorem q1898 : (Jvm.Cond.privateMethod ({ cls := "QuotedRiverModel", name := "asksRivers", desc := "()Z" } : Jvm.MethodName)) ∈ lw_tbl := lw_at lw_m8 126 rfl
theorem q1899 : (Jvm.Cond.instanceMethod ({ cls := "QuotedRiverModel", name := "asksRivers", desc := "()Z" } : Jvm.MethodName)) ∈ lw_all := lw_g (lw_at lw_m8 127 rfl) rfl
theorem q1900 : (Jvm.Cond.code ({ cls := "QuotedRiverModel", name := "asksRivers", desc := "()Z" } : Jvm.MethodName) prog_14_method_38_code (1 : Nat) (Option.some Jvm.ClassFile.FieldType.boolean)) ∈ lw_all := lw_g (lw_at lw_m8 128 rfl) rfl
theorem q1901 : (Jvm.Cond.methodLink "QuotedRiverModel" (247 : Nat) ({ cls := "QuotedRiverModel", name := "asItIs", desc := "()V" } : Jvm.MethodName)) ∈ lw_all := lw_g (lw_at lw_m8 129 rfl) rfl
theorem q1902 : (Jvm.Cond.privateMethod ({ cls := "QuotedRiverModel", name := "asItIs", desc := "()V" } : Jvm.MethodName)) ∈ lw_tbl := lw_at lw_m8 130 rfl
theorem q1903 : (Jvm.Cond.instanceMethod ({ cls := "QuotedRiverModel", name := "asItIs", desc := "()V" } : Jvm.MethodName)) ∈ lw_all := lw_g (lw_at lw_m8 131 rfl) rfl
theorem q1904 : (Jvm.Cond.code ({ cls := "QuotedRiverModel", name := "asItIs", desc := "()V" } : Jvm.MethodName) prog_14_method_37_code (3 : Nat) (Option.none : Option Jvm.ClassFile.FieldType)) ∈ lw_all := lw_g (lw_at lw_m8 132 rfl) rfl
theorem q1905 : (Jvm.Cond.methodLink "QuotedRiverModel" (244 : Nat) ({ cls := "QuotedRiverModel", name := "layLevels", desc := "()V" } : Jvm.MethodName)) ∈ lw_all := lw_g (lw_at lw_m8 133 rfl) rfl
theorem q1906 : (Jvm.Cond.privateMethod ({ cls := "QuotedRiverModel", name := "layLevels", desc := "()V" } : Jvm.MethodName)) ∈ lw_tbl := lw_at lw_m8 134 rfl
theorem q1907 : (Jvm.Cond.instanceMethod ({ cls := "QuotedRiverModel", name := "layLevels", desc := "()V" } : Jvm.MethodName)) ∈ lw_all := lw_g (lw_at lw_m8 135 rfl) rfl
theorem q1908 : (Jvm.Cond.code ({ cls := "QuotedRiverModel", name := "layLevels", desc := "()V" } : Jvm.MethodName) prog_14_method_36_code (3 : Nat) (Option.none : Option Jvm.ClassFile.FieldType)) ∈ lw_all := lw_g (lw_at lw_m8 136 rfl) rfl
theorem q1909 : (Jvm.Cond.methodLink "QuotedRiverModel" (235 : Nat) ({ cls := "java/lang/Math", name := "max", desc := "(II)I" } : Jvm.MethodName)) ∈ lw_all := lw_g (lw_at lw_m8 137 rfl) rfl
theorem q1910 : (Jvm.Cond.methodLink "QuotedRiverModel" (250 : Nat) ({ cls := "QuotedRiverModel", name := "isRivers", desc := "()Z" } : Jvm.MethodName)) ∈ lw_all := lw_g (lw_at lw_m8 138 rfl) rfl
theorem q1911 : (Jvm.Cond.privateMethod ({ cls := "QuotedRiverModel", name := "isRivers", desc := "()Z" } : Jvm.MethodName)) ∈ lw_tbl := lw_at lw_m8 139 rfl
theorem q1912 : (Jvm.Cond.instanceMethod ({ cls := "QuotedRiverModel", name := "isRivers", desc := "()Z" } : Jvm.MethodName)) ∈ lw_all := lw_g (lw_at lw_m8 140 rfl) rfl
theorem q1913 : (Jvm.Cond.code ({ cls := "QuotedRiverModel", name := "isRivers", desc := "()Z" } : Jvm.MethodName) prog_14_method_8_code (1 : Nat) (Option.some Jvm.ClassFile.FieldType.boolean)) ∈ lw_all := lw_g (lw_at lw_m8 141 rfl) rfl
theorem q1914 : (Jvm.Cond.methodLink "QuotedRiverModel" (256 : Nat) ({ cls := "QuotedRiverModel", name := "isStep", desc := "(J)Z" } : Jvm.MethodName)) ∈ lw_all := lw_g (lw_at lw_m8 142 rfl) rfl
theorem q1915 : (Jvm.Cond.static ({ cls := "QuotedRiverModel", name := "isStep", desc := "(J)Z" } : Jvm.MethodName)) ∈ lw_all := lw_g (lw_at lw_m8 143 rfl) rfl
theorem q1916 : (Jvm.Cond.code ({ cls := "QuotedRiverModel", name := "isStep", desc := "(J)Z" } : Jvm.MethodName) prog_14_method_11_code (2 : Nat) (Option.some Jvm.ClassFile.FieldType.boolean)) ∈ lw_all := lw_g (lw_at lw_m8 144 rfl) rfl
theorem q1917 : (Jvm.Cond.constantLong "QuotedRiverModel" (96 : Nat) (60 : Int64)) ∈ lw_all := lw_g (lw_at lw_m8 145 rfl) rfl
theorem q1919 : (Jvm.Cond.instanceMethod ({ cls := "QuotedRiverModel", name := "stands", desc := "(I)I" } : Jvm.MethodName)) ∈ lw_all := lw_g (lw_at lw_m8 147 rfl) rfl
theorem q1920 : (Jvm.Cond.selects "QuotedRiverModel" ({ cls := "QuotedRiverModel", name := "stands", desc := "(I)I" } : Jvm.MethodName) ({ cls := "QuotedRiverModel", name := "stands", desc := "(I)I" } : Jvm.MethodName)) ∈ lw_all := lw_g (lw_at lw_m8 148 rfl) rfl
theorem q1921 : (Jvm.Cond.code ({ cls := "QuotedRiverModel", name := "stands", desc := "(I)I" } : Jvm.MethodName) prog_14_method_41_code (2 : Nat) (Option.some Jvm.ClassFile.FieldType.int)) ∈ lw_all := lw_g (lw_at lw_m8 149 rfl) rfl
theorem q1923 : (Jvm.Cond.instanceMethod ({ cls := "QuotedRiverModel", name := "dry", desc := "(I)I" } : Jvm.MethodName)) ∈ lw_all := lw_g (lw_at lw_m8 151 rfl) rfl
theorem q1924 : (Jvm.Cond.selects "QuotedRiverModel" ({ cls := "QuotedRiverModel", name := "dry", desc := "(I)I" } : Jvm.MethodName) ({ cls := "QuotedRiverModel", name := "dry", desc := "(I)I" } : Jvm.MethodName)) ∈ lw_all := lw_g (lw_at lw_m8 152 rfl) rfl
theorem q1925 : (Jvm.Cond.code ({ cls := "QuotedRiverModel", name := "dry", desc := "(I)I" } : Jvm.MethodName) prog_14_method_42_code (3 : Nat) (Option.some Jvm.ClassFile.FieldType.int)) ∈ lw_all := lw_g (lw_at lw_m8 153 rfl) rfl
theorem q1926 : (Jvm.Cond.methodLink "QuotedRiverModel" (259 : Nat) ({ cls := "QuotedRiverModel", name := "asksReach", desc := "(I)Z" } : Jvm.MethodName)) ∈ lw_all := lw_g (lw_at lw_m8 154 rfl) rfl
theorem q1927 : (Jvm.Cond.privateMethod ({ cls := "QuotedRiverModel", name := "asksReach", desc := "(I)Z" } : Jvm.MethodName)) ∈ lw_tbl := lw_at lw_m8 155 rfl
theorem q1928 : (Jvm.Cond.instanceMethod ({ cls := "QuotedRiverModel", name := "asksReach", desc := "(I)Z" } : Jvm.MethodName)) ∈ lw_all := lw_g (lw_at lw_m8 156 rfl) rfl
theorem q1929 : (Jvm.Cond.code ({ cls := "QuotedRiverModel", name := "asksReach", desc := "(I)Z" } : Jvm.MethodName) prog_14_method_39_code (2 : Nat) (Option.some Jvm.ClassFile.FieldType.boolean)) ∈ lw_all := lw_g (lw_at lw_m8 157 rfl) rfl
theorem q1930 : (Jvm.Cond.methodLink "QuotedRiverModel" (262 : Nat) ({ cls := "QuotedRiverModel", name := "bit", desc := "(II)I" } : Jvm.MethodName)) ∈ lw_all := lw_g (lw_at lw_m8 158 rfl) rfl
theorem q1931 : (Jvm.Cond.static ({ cls := "QuotedRiverModel", name := "bit", desc := "(II)I" } : Jvm.MethodName)) ∈ lw_all := lw_g (lw_at lw_m8 159 rfl) rfl
theorem q1932 : (Jvm.Cond.code ({ cls := "QuotedRiverModel", name := "bit", desc := "(II)I" } : Jvm.MethodName) prog_14_method_5_code (2 : Nat) (Option.some Jvm.ClassFile.FieldType.int)) ∈ lw_all := lw_g (lw_at lw_m8 160 rfl) rfl
theorem q1934 : (Jvm.Cond.instanceMethod ({ cls := "QuotedRiverModel", name := "drought", desc := "(I)I" } : Jvm.MethodName)) ∈ lw_all := lw_g (lw_at lw_m8 162 rfl) rfl
theorem q1935 : (Jvm.Cond.selects "QuotedRiverModel" ({ cls := "QuotedRiverModel", name := "drought", desc := "(I)I" } : Jvm.MethodName) ({ cls := "QuotedRiverModel", name := "drought", desc := "(I)I" } : Jvm.MethodName)) ∈ lw_all := lw_g (lw_at lw_m8 163 rfl) rfl
theorem q1936 : (Jvm.Cond.code ({ cls := "QuotedRiverModel", name := "drought", desc := "(I)I" } : Jvm.MethodName) prog_14_method_43_code (5 : Nat) (Option.some Jvm.ClassFile.FieldType.int)) ∈ lw_all := lw_g (lw_at lw_m8 164 rfl) rfl
theorem q1938 : (Jvm.Cond.instanceMethod ({ cls := "QuotedRiverModel", name := "flows", desc := "(I)I" } : Jvm.MethodName)) ∈ lw_all := lw_g (lw_at lw_m8 166 rfl) rfl
theorem q1939 : (Jvm.Cond.selects "QuotedRiverModel" ({ cls := "QuotedRiverModel", name := "flows", desc := "(I)I" } : Jvm.MethodName) ({ cls := "QuotedRiverModel", name := "flows", desc := "(I)I" } : Jvm.MethodName)) ∈ lw_all := lw_g (lw_at lw_m8 167 rfl) rfl
theorem q1940 : (Jvm.Cond.code ({ cls := "QuotedRiverModel", name := "flows", desc := "(I)I" } : Jvm.MethodName) prog_14_method_44_code (2 : Nat) (Option.some Jvm.ClassFile.FieldType.int)) ∈ lw_all := lw_g (lw_at lw_m8 168 rfl) rfl
theorem q1942 : (Jvm.Cond.instanceMethod ({ cls := "QuotedRiverModel", name := "idle", desc := "(I)I" } : Jvm.MethodName)) ∈ lw_all := lw_g (lw_at lw_m8 170 rfl) rfl
theorem q1943 : (Jvm.Cond.selects "QuotedRiverModel" ({ cls := "QuotedRiverModel", name := "idle", desc := "(I)I" } : Jvm.MethodName) ({ cls := "QuotedRiverModel", name := "idle", desc := "(I)I" } : Jvm.MethodName)) ∈ lw_all := lw_g (lw_at lw_m8 171 rfl) rfl
theorem q1944 : (Jvm.Cond.code ({ cls := "QuotedRiverModel", name := "idle", desc := "(I)I" } : Jvm.MethodName) prog_14_method_45_code (4 : Nat) (Option.some Jvm.ClassFile.FieldType.int)) ∈ lw_all := lw_g (lw_at lw_m8 172 rfl) rfl
theorem q1946 : (Jvm.Cond.instanceMethod ({ cls := "QuotedRiverModel", name := "rained", desc := "(I)I" } : Jvm.MethodName)) ∈ lw_all := lw_g (lw_at lw_m8 174 rfl) rfl
theorem q1947 : (Jvm.Cond.selects "QuotedRiverModel" ({ cls := "QuotedRiverModel", name := "rained", desc := "(I)I" } : Jvm.MethodName) ({ cls := "QuotedRiverModel", name := "rained", desc := "(I)I" } : Jvm.MethodName)) ∈ lw_all := lw_g (lw_at lw_m8 175 rfl) rfl
theorem q1948 : (Jvm.Cond.code ({ cls := "QuotedRiverModel", name := "rained", desc := "(I)I" } : Jvm.MethodName) prog_14_method_46_code (4 : Nat) (Option.some Jvm.ClassFile.FieldType.int)) ∈ lw_all := lw_g (lw_at lw_m8 176 rfl) rfl
theorem q1950 : (Jvm.Cond.instanceMethod ({ cls := "QuotedRiverModel", name := "lowest", desc := "()I" } : Jvm.MethodName)) ∈ lw_all := lw_g (lw_at lw_m8 178 rfl) rfl
theorem q1951 : (Jvm.Cond.selects "QuotedRiverModel" ({ cls := "QuotedRiverModel", name := "lowest", desc := "()I" } : Jvm.MethodName) ({ cls := "QuotedRiverModel", name := "lowest", desc := "()I" } : Jvm.MethodName)) ∈ lw_all := lw_g (lw_at lw_m8 179 rfl) rfl
theorem q1952 : (Jvm.Cond.code ({ cls := "QuotedRiverModel", name := "lowest", desc := "()I" } : Jvm.MethodName) prog_14_method_48_code (1 : Nat) (Option.some Jvm.ClassFile.FieldType.int)) ∈ lw_all := lw_g (lw_at lw_m8 180 rfl) rfl
theorem q1953 : (Jvm.Cond.methodLink "QuotedRiverModel" (265 : Nat) ({ cls := "QuotedRiverModel", name := "lowestOf", desc := "()I" } : Jvm.MethodName)) ∈ lw_all := lw_g (lw_at lw_m8 181 rfl) rfl
theorem q1954 : (Jvm.Cond.privateMethod ({ cls := "QuotedRiverModel", name := "lowestOf", desc := "()I" } : Jvm.MethodName)) ∈ lw_tbl := lw_at lw_m8 182 rfl
theorem q1955 : (Jvm.Cond.instanceMethod ({ cls := "QuotedRiverModel", name := "lowestOf", desc := "()I" } : Jvm.MethodName)) ∈ lw_all := lw_g (lw_at lw_m8 183 rfl) rfl
theorem q1956 : (Jvm.Cond.code ({ cls := "QuotedRiverModel", name := "lowestOf", desc := "()I" } : Jvm.MethodName) prog_14_method_47_code (3 : Nat) (Option.some Jvm.ClassFile.FieldType.int)) ∈ lw_all := lw_g (lw_at lw_m8 184 rfl) rfl
theorem q1958 : (Jvm.Cond.instanceMethod ({ cls := "QuotedRiverModel", name := "deeper", desc := "()I" } : Jvm.MethodName)) ∈ lw_all := lw_g (lw_at lw_m8 186 rfl) rfl
theorem q1959 : (Jvm.Cond.selects "QuotedRiverModel" ({ cls := "QuotedRiverModel", name := "deeper", desc := "()I" } : Jvm.MethodName) ({ cls := "QuotedRiverModel", name := "deeper", desc := "()I" } : Jvm.MethodName)) ∈ lw_all := lw_g (lw_at lw_m8 187 rfl) rfl
theorem q1960 : (Jvm.Cond.code ({ cls := "QuotedRiverModel", name := "deeper", desc := "()I" } : Jvm.MethodName) prog_14_method_49_code (1 : Nat) (Option.some Jvm.ClassFile.FieldType.int)) ∈ lw_all := lw_g (lw_at lw_m8 188 rfl) rfl
theorem q1962 : (Jvm.Cond.instanceMethod ({ cls := "QuotedRiverModel", name := "mouths", desc := "()I" } : Jvm.MethodName)) ∈ lw_all := lw_g (lw_at lw_m8 190 rfl) rfl
theorem q1963 : (Jvm.Cond.selects "QuotedRiverModel" ({ cls := "QuotedRiverModel", name := "mouths", desc := "()I" } : Jvm.MethodName) ({ cls := "QuotedRiverModel", name := "mouths", desc := "()I" } : Jvm.MethodName)) ∈ lw_all := lw_g (lw_at lw_m8 191 rfl) rfl
theorem q1964 : (Jvm.Cond.code ({ cls := "QuotedRiverModel", name := "mouths", desc := "()I" } : Jvm.MethodName) prog_14_method_50_code (3 : Nat) (Option.some Jvm.ClassFile.FieldType.int)) ∈ lw_all := lw_g (lw_at lw_m8 192 rfl) rfl
theorem q1966 : (Jvm.Cond.instanceMethod ({ cls := "QuotedRiverModel", name := "springs", desc := "()I" } : Jvm.MethodName)) ∈ lw_all := lw_g (lw_at lw_m8 194 rfl) rfl
theorem q1967 : (Jvm.Cond.selects "QuotedRiverModel" ({ cls := "QuotedRiverModel", name := "springs", desc := "()I" } : Jvm.MethodName) ({ cls := "QuotedRiverModel", name := "springs", desc := "()I" } : Jvm.MethodName)) ∈ lw_all := lw_g (lw_at lw_m8 195 rfl) rfl
theorem q1968 : (Jvm.Cond.code ({ cls := "QuotedRiverModel", name := "springs", desc := "()I" } : Jvm.MethodName) prog_14_method_51_code (3 : Nat) (Option.some Jvm.ClassFile.FieldType.int)) ∈ lw_all := lw_g (lw_at lw_m8 196 rfl) rfl
theorem q1970 : (Jvm.Cond.instanceMethod ({ cls := "QuotedRiverModel", name := "depth", desc := "(I)I" } : Jvm.MethodName)) ∈ lw_all := lw_g (lw_at lw_m8 198 rfl) rfl
theorem q1971 : (Jvm.Cond.selects "QuotedRiverModel" ({ cls := "QuotedRiverModel", name := "depth", desc := "(I)I" } : Jvm.MethodName) ({ cls := "QuotedRiverModel", name := "depth", desc := "(I)I" } : Jvm.MethodName)) ∈ lw_all := lw_g (lw_at lw_m8 199 rfl) rfl
theorem q1972 : (Jvm.Cond.code ({ cls := "QuotedRiverModel", name := "depth", desc := "(I)I" } : Jvm.MethodName) prog_14_method_52_code (4 : Nat) (Option.some Jvm.ClassFile.FieldType.int)) ∈ lw_all := lw_g (lw_at lw_m8 200 rfl) rfl
theorem q1974 : (Jvm.Cond.instanceMethod ({ cls := "QuotedRiverModel", name := "rings", desc := "()I" } : Jvm.MethodName)) ∈ lw_all := lw_g (lw_at lw_m8 202 rfl) rfl
theorem q1975 : (Jvm.Cond.selects "QuotedRiverModel" ({ cls := "QuotedRiverModel", name := "rings", desc := "()I" } : Jvm.MethodName) ({ cls := "QuotedRiverModel", name := "rings", desc := "()I" } : Jvm.MethodName)) ∈ lw_all := lw_g (lw_at lw_m8 203 rfl) rfl
theorem q1976 : (Jvm.Cond.code ({ cls := "QuotedRiverModel", name := "rings", desc := "()I" } : Jvm.MethodName) prog_14_method_53_code (5 : Nat) (Option.some Jvm.ClassFile.FieldType.int)) ∈ lw_all := lw_g (lw_at lw_m8 204 rfl) rfl
theorem q1978 : (Jvm.Cond.instanceMethod ({ cls := "QuotedRiverModel", name := "goes", desc := "(II)I" } : Jvm.MethodName)) ∈ lw_all := lw_g (lw_at lw_m8 206 rfl) rfl
theorem q1979 : (Jvm.Cond.selects "QuotedRiverModel" ({ cls := "QuotedRiverModel", name := "goes", desc := "(II)I" } : Jvm.MethodName) ({ cls := "QuotedRiverModel", name := "goes", desc := "(II)I" } : Jvm.MethodName)) ∈ lw_all := lw_g (lw_at lw_m8 207 rfl) rfl
theorem q1980 : (Jvm.Cond.code ({ cls := "QuotedRiverModel", name := "goes", desc := "(II)I" } : Jvm.MethodName) prog_14_method_54_code (3 : Nat) (Option.some Jvm.ClassFile.FieldType.int)) ∈ lw_all := lw_g (lw_at lw_m8 208 rfl) rfl
theorem q1982 : (Jvm.Cond.instanceMethod ({ cls := "QuotedRiverModel", name := "where", desc := "(III)I" } : Jvm.MethodName)) ∈ lw_all := lw_g (lw_at lw_m8 210 rfl) rfl
theorem q1983 : (Jvm.Cond.selects "QuotedRiverModel" ({ cls := "QuotedRiverModel", name := "where", desc := "(III)I" } : Jvm.MethodName) ({ cls := "QuotedRiverModel", name := "where", desc := "(III)I" } : Jvm.MethodName)) ∈ lw_all := lw_g (lw_at lw_m8 211 rfl) rfl
theorem q1984 : (Jvm.Cond.code ({ cls := "QuotedRiverModel", name := "where", desc := "(III)I" } : Jvm.MethodName) prog_14_method_59_code (4 : Nat) (Option.some Jvm.ClassFile.FieldType.int)) ∈ lw_all := lw_g (lw_at lw_m8 212 rfl) rfl
theorem q1985 : (Jvm.Cond.methodLink "QuotedRiverModel" (284 : Nat) ({ cls := "QuotedRiverModel", name := "putsIn", desc := "(II)Z" } : Jvm.MethodName)) ∈ lw_all := lw_g (lw_at lw_m8 213 rfl) rfl
theorem q1986 : (Jvm.Cond.privateMethod ({ cls := "QuotedRiverModel", name := "putsIn", desc := "(II)Z" } : Jvm.MethodName)) ∈ lw_tbl := lw_at lw_m8 214 rfl
theorem q1987 : (Jvm.Cond.instanceMethod ({ cls := "QuotedRiverModel", name := "putsIn", desc := "(II)Z" } : Jvm.MethodName)) ∈ lw_all := lw_g (lw_at lw_m8 215 rfl) rfl
theorem q1988 : (Jvm.Cond.code ({ cls := "QuotedRiverModel", name := "putsIn", desc := "(II)Z" } : Jvm.MethodName) prog_14_method_58_code (3 : Nat) (Option.some Jvm.ClassFile.FieldType.boolean)) ∈ lw_all := lw_g (lw_at lw_m8 216 rfl) rfl
theorem q1989 : (Jvm.Cond.methodLink "QuotedRiverModel" (280 : Nat) ({ cls := "QuotedRiverModel", name := "goStick", desc := "(II)V" } : Jvm.MethodName)) ∈ lw_all := lw_g (lw_at lw_m8 217 rfl) rfl
theorem q1990 : (Jvm.Cond.privateMethod ({ cls := "QuotedRiverModel", name := "goStick", desc := "(II)V" } : Jvm.MethodName)) ∈ lw_tbl := lw_at lw_m8 218 rfl
theorem q1991 : (Jvm.Cond.instanceMethod ({ cls := "QuotedRiverModel", name := "goStick", desc := "(II)V" } : Jvm.MethodName)) ∈ lw_all := lw_g (lw_at lw_m8 219 rfl) rfl
theorem q1992 : (Jvm.Cond.code ({ cls := "QuotedRiverModel", name := "goStick", desc := "(II)V" } : Jvm.MethodName) prog_14_method_56_code (8 : Nat) (Option.none : Option Jvm.ClassFile.FieldType)) ∈ lw_all := lw_g (lw_at lw_m8 220 rfl) rfl
theorem q1993 : (Jvm.Cond.methodLink "QuotedRiverModel" (277 : Nat) ({ cls := "QuotedRiverModel", name := "joinFrom", desc := "(II)I" } : Jvm.MethodName)) ∈ lw_all := lw_g (lw_at lw_m8 221 rfl) rfl
theorem q1994 : (Jvm.Cond.privateMethod ({ cls := "QuotedRiverModel", name := "joinFrom", desc := "(II)I" } : Jvm.MethodName)) ∈ lw_tbl := lw_at lw_m8 222 rfl
theorem q1995 : (Jvm.Cond.instanceMethod ({ cls := "QuotedRiverModel", name := "joinFrom", desc := "(II)I" } : Jvm.MethodName)) ∈ lw_all := lw_g (lw_at lw_m8 223 rfl) rfl
theorem q1996 : (Jvm.Cond.code ({ cls := "QuotedRiverModel", name := "joinFrom", desc := "(II)I" } : Jvm.MethodName) prog_14_method_55_code (4 : Nat) (Option.some Jvm.ClassFile.FieldType.int)) ∈ lw_all := lw_g (lw_at lw_m8 224 rfl) rfl
theorem q1998 : (Jvm.Cond.instanceMethod ({ cls := "QuotedRiverModel", name := "sea", desc := "(II)I" } : Jvm.MethodName)) ∈ lw_all := lw_g (lw_at lw_m8 226 rfl) rfl
theorem q1999 : (Jvm.Cond.selects "QuotedRiverModel" ({ cls := "QuotedRiverModel", name := "sea", desc := "(II)I" } : Jvm.MethodName) ({ cls := "QuotedRiverModel", name := "sea", desc := "(II)I" } : Jvm.MethodName)) ∈ lw_all := lw_g (lw_at lw_m8 227 rfl) rfl
theorem q2000 : (Jvm.Cond.code ({ cls := "QuotedRiverModel", name := "sea", desc := "(II)I" } : Jvm.MethodName) prog_14_method_60_code (3 : Nat) (Option.some Jvm.ClassFile.FieldType.int)) ∈ lw_all := lw_g (lw_at lw_m8 228 rfl) rfl
theorem q2001 : (Jvm.Cond.methodLink "QuotedRiverModel" (288 : Nat) ({ cls := "QuotedRiverModel", name := "comesOf", desc := "(II)I" } : Jvm.MethodName)) ∈ lw_all := lw_g (lw_at lw_m8 229 rfl) rfl
theorem q2002 : (Jvm.Cond.privateMethod ({ cls := "QuotedRiverModel", name := "comesOf", desc := "(II)I" } : Jvm.MethodName)) ∈ lw_tbl := lw_at lw_m8 230 rfl
theorem q2003 : (Jvm.Cond.instanceMethod ({ cls := "QuotedRiverModel", name := "comesOf", desc := "(II)I" } : Jvm.MethodName)) ∈ lw_all := lw_g (lw_at lw_m8 231 rfl) rfl
theorem q2004 : (Jvm.Cond.code ({ cls := "QuotedRiverModel", name := "comesOf", desc := "(II)I" } : Jvm.MethodName) prog_14_method_57_code (4 : Nat) (Option.some Jvm.ClassFile.FieldType.int)) ∈ lw_all := lw_g (lw_at lw_m8 232 rfl) rfl
theorem q2006 : (Jvm.Cond.instanceMethod ({ cls := "QuotedRiverModel", name := "comes", desc := "(III)I" } : Jvm.MethodName)) ∈ lw_all := lw_g (lw_at lw_m8 234 rfl) rfl
theorem q2007 : (Jvm.Cond.selects "QuotedRiverModel" ({ cls := "QuotedRiverModel", name := "comes", desc := "(III)I" } : Jvm.MethodName) ({ cls := "QuotedRiverModel", name := "comes", desc := "(III)I" } : Jvm.MethodName)) ∈ lw_all := lw_g (lw_at lw_m8 235 rfl) rfl
theorem q2008 : (Jvm.Cond.code ({ cls := "QuotedRiverModel", name := "comes", desc := "(III)I" } : Jvm.MethodName) prog_14_method_61_code (4 : Nat) (Option.some Jvm.ClassFile.FieldType.int)) ∈ lw_all := lw_g (lw_at lw_m8 236 rfl) rfl
theorem q2010 : (Jvm.Cond.instanceMethod ({ cls := "QuotedRiverModel", name := "way", desc := "(II)I" } : Jvm.MethodName)) ∈ lw_all := lw_g (lw_at lw_m8 238 rfl) rfl
theorem q2011 : (Jvm.Cond.selects "QuotedRiverModel" ({ cls := "QuotedRiverModel", name := "way", desc := "(II)I" } : Jvm.MethodName) ({ cls := "QuotedRiverModel", name := "way", desc := "(II)I" } : Jvm.MethodName)) ∈ lw_all := lw_g (lw_at lw_m8 239 rfl) rfl
theorem q2012 : (Jvm.Cond.code ({ cls := "QuotedRiverModel", name := "way", desc := "(II)I" } : Jvm.MethodName) prog_14_method_62_code (5 : Nat) (Option.some Jvm.ClassFile.FieldType.int)) ∈ lw_all := lw_g (lw_at lw_m9 0 rfl) rfl
theorem q2014 : (Jvm.Cond.instanceMethod ({ cls := "QuotedRiverModel", name := "leaves", desc := "(II)I" } : Jvm.MethodName)) ∈ lw_all := lw_g (lw_at lw_m9 2 rfl) rfl
theorem q2015 : (Jvm.Cond.selects "QuotedRiverModel" ({ cls := "QuotedRiverModel", name := "leaves", desc := "(II)I" } : Jvm.MethodName) ({ cls := "QuotedRiverModel", name := "leaves", desc := "(II)I" } : Jvm.MethodName)) ∈ lw_all := lw_g (lw_at lw_m9 3 rfl) rfl
theorem q2016 : (Jvm.Cond.code ({ cls := "QuotedRiverModel", name := "leaves", desc := "(II)I" } : Jvm.MethodName) prog_14_method_63_code (3 : Nat) (Option.some Jvm.ClassFile.FieldType.int)) ∈ lw_all := lw_g (lw_at lw_m9 4 rfl) rfl
theorem q2018 : (Jvm.Cond.instanceMethod ({ cls := "QuotedRiverModel", name := "waits", desc := "(II)I" } : Jvm.MethodName)) ∈ lw_all := lw_g (lw_at lw_m9 6 rfl) rfl
theorem q2019 : (Jvm.Cond.selects "QuotedRiverModel" ({ cls := "QuotedRiverModel", name := "waits", desc := "(II)I" } : Jvm.MethodName) ({ cls := "QuotedRiverModel", name := "waits", desc := "(II)I" } : Jvm.MethodName)) ∈ lw_all := lw_g (lw_at lw_m9 7 rfl) rfl
theorem q2020 : (Jvm.Cond.code ({ cls := "QuotedRiverModel", name := "waits", desc := "(II)I" } : Jvm.MethodName) prog_14_method_64_code (5 : Nat) (Option.some Jvm.ClassFile.FieldType.int)) ∈ lw_all := lw_g (lw_at lw_m9 8 rfl) rfl
theorem q2022 : (Jvm.Cond.instanceMethod ({ cls := "QuotedRiverModel", name := "jumps", desc := "(II)I" } : Jvm.MethodName)) ∈ lw_all := lw_g (lw_at lw_m9 10 rfl) rfl
theorem q2023 : (Jvm.Cond.selects "QuotedRiverModel" ({ cls := "QuotedRiverModel", name := "jumps", desc := "(II)I" } : Jvm.MethodName) ({ cls := "QuotedRiverModel", name := "jumps", desc := "(II)I" } : Jvm.MethodName)) ∈ lw_all := lw_g (lw_at lw_m9 11 rfl) rfl
theorem q2024 : (Jvm.Cond.code ({ cls := "QuotedRiverModel", name := "jumps", desc := "(II)I" } : Jvm.MethodName) prog_14_method_65_code (3 : Nat) (Option.some Jvm.ClassFile.FieldType.int)) ∈ lw_all := lw_g (lw_at lw_m9 12 rfl) rfl
theorem q2026 : (Jvm.Cond.instanceMethod ({ cls := "QuotedRiverModel", name := "used", desc := "(II)I" } : Jvm.MethodName)) ∈ lw_all := lw_g (lw_at lw_m9 14 rfl) rfl
theorem q2027 : (Jvm.Cond.selects "QuotedRiverModel" ({ cls := "QuotedRiverModel", name := "used", desc := "(II)I" } : Jvm.MethodName) ({ cls := "QuotedRiverModel", name := "used", desc := "(II)I" } : Jvm.MethodName)) ∈ lw_all := lw_g (lw_at lw_m9 15 rfl) rfl
theorem q2028 : (Jvm.Cond.code ({ cls := "QuotedRiverModel", name := "used", desc := "(II)I" } : Jvm.MethodName) prog_14_method_66_code (3 : Nat) (Option.some Jvm.ClassFile.FieldType.int)) ∈ lw_all := lw_g (lw_at lw_m9 16 rfl) rfl
theorem q2030 : (Jvm.Cond.instanceMethod ({ cls := "QuotedRiverModel", name := "together", desc := "(II)I" } : Jvm.MethodName)) ∈ lw_all := lw_g (lw_at lw_m9 18 rfl) rfl
theorem q2031 : (Jvm.Cond.selects "QuotedRiverModel" ({ cls := "QuotedRiverModel", name := "together", desc := "(II)I" } : Jvm.MethodName) ({ cls := "QuotedRiverModel", name := "together", desc := "(II)I" } : Jvm.MethodName)) ∈ lw_all := lw_g (lw_at lw_m9 19 rfl) rfl
theorem q2032 : (Jvm.Cond.code ({ cls := "QuotedRiverModel", name := "together", desc := "(II)I" } : Jvm.MethodName) prog_14_method_67_code (6 : Nat) (Option.some Jvm.ClassFile.FieldType.int)) ∈ lw_all := lw_g (lw_at lw_m9 20 rfl) rfl
theorem q2034 : (Jvm.Cond.instanceMethod ({ cls := "QuotedRiverModel", name := "again", desc := "(II)I" } : Jvm.MethodName)) ∈ lw_all := lw_g (lw_at lw_m9 22 rfl) rfl
theorem q2035 : (Jvm.Cond.selects "QuotedRiverModel" ({ cls := "QuotedRiverModel", name := "again", desc := "(II)I" } : Jvm.MethodName) ({ cls := "QuotedRiverModel", name := "again", desc := "(II)I" } : Jvm.MethodName)) ∈ lw_all := lw_g (lw_at lw_m9 23 rfl) rfl
theorem q2036 : (Jvm.Cond.code ({ cls := "QuotedRiverModel", name := "again", desc := "(II)I" } : Jvm.MethodName) prog_14_method_68_code (6 : Nat) (Option.some Jvm.ClassFile.FieldType.int)) ∈ lw_all := lw_g (lw_at lw_m9 24 rfl) rfl
theorem q2038 : (Jvm.Cond.instanceMethod ({ cls := "QuotedRiverModel", name := "can", desc := "(I)I" } : Jvm.MethodName)) ∈ lw_all := lw_g (lw_at lw_m9 26 rfl) rfl
theorem q2039 : (Jvm.Cond.selects "QuotedRiverModel" ({ cls := "QuotedRiverModel", name := "can", desc := "(I)I" } : Jvm.MethodName) ({ cls := "QuotedRiverModel", name := "can", desc := "(I)I" } : Jvm.MethodName)) ∈ lw_all := lw_g (lw_at lw_m9 27 rfl) rfl
theorem q2040 : (Jvm.Cond.code ({ cls := "QuotedRiverModel", name := "can", desc := "(I)I" } : Jvm.MethodName) prog_14_method_69_code (4 : Nat) (Option.some Jvm.ClassFile.FieldType.int)) ∈ lw_all := lw_g (lw_at lw_m9 28 rfl) rfl
theorem q2041 : (Jvm.Cond.methodLink "QuotedRiverModel" (291 : Nat) ({ cls := "QuotedRiverModel", name := "way", desc := "(II)I" } : Jvm.MethodName)) ∈ lw_all := lw_g (lw_at lw_m9 29 rfl) rfl
theorem q2043 : (Jvm.Cond.instanceMethod ({ cls := "QuotedRiverModel", name := "finds", desc := "(II)I" } : Jvm.MethodName)) ∈ lw_all := lw_g (lw_at lw_m9 31 rfl) rfl
theorem q2044 : (Jvm.Cond.selects "QuotedRiverModel" ({ cls := "QuotedRiverModel", name := "finds", desc := "(II)I" } : Jvm.MethodName) ({ cls := "QuotedRiverModel", name := "finds", desc := "(II)I" } : Jvm.MethodName)) ∈ lw_all := lw_g (lw_at lw_m9 32 rfl) rfl
theorem q2045 : (Jvm.Cond.code ({ cls := "QuotedRiverModel", name := "finds", desc := "(II)I" } : Jvm.MethodName) prog_14_method_70_code (7 : Nat) (Option.some Jvm.ClassFile.FieldType.int)) ∈ lw_all := lw_g (lw_at lw_m9 33 rfl) rfl
theorem q2047 : (Jvm.Cond.instanceMethod ({ cls := "QuotedRiverModel", name := "from", desc := "(II)I" } : Jvm.MethodName)) ∈ lw_all := lw_g (lw_at lw_m9 35 rfl) rfl
theorem q2048 : (Jvm.Cond.selects "QuotedRiverModel" ({ cls := "QuotedRiverModel", name := "from", desc := "(II)I" } : Jvm.MethodName) ({ cls := "QuotedRiverModel", name := "from", desc := "(II)I" } : Jvm.MethodName)) ∈ lw_all := lw_g (lw_at lw_m9 36 rfl) rfl
theorem q2049 : (Jvm.Cond.code ({ cls := "QuotedRiverModel", name := "from", desc := "(II)I" } : Jvm.MethodName) prog_14_method_71_code (5 : Nat) (Option.some Jvm.ClassFile.FieldType.int)) ∈ lw_all := lw_g (lw_at lw_m9 37 rfl) rfl
theorem q2051 : (Jvm.Cond.instanceMethod ({ cls := "QuotedRiverModel", name := "ends", desc := "(I)I" } : Jvm.MethodName)) ∈ lw_all := lw_g (lw_at lw_m9 39 rfl) rfl
theorem q2052 : (Jvm.Cond.selects "QuotedRiverModel" ({ cls := "QuotedRiverModel", name := "ends", desc := "(I)I" } : Jvm.MethodName) ({ cls := "QuotedRiverModel", name := "ends", desc := "(I)I" } : Jvm.MethodName)) ∈ lw_all := lw_g (lw_at lw_m9 40 rfl) rfl
theorem q2053 : (Jvm.Cond.code ({ cls := "QuotedRiverModel", name := "ends", desc := "(I)I" } : Jvm.MethodName) prog_14_method_72_code (4 : Nat) (Option.some Jvm.ClassFile.FieldType.int)) ∈ lw_all := lw_g (lw_at lw_m9 41 rfl) rfl
theorem q2055 : (Jvm.Cond.instanceMethod ({ cls := "QuotedRiverModel", name := "meet", desc := "(II)I" } : Jvm.MethodName)) ∈ lw_all := lw_g (lw_at lw_m9 43 rfl) rfl
theorem q2056 : (Jvm.Cond.selects "QuotedRiverModel" ({ cls := "QuotedRiverModel", name := "meet", desc := "(II)I" } : Jvm.MethodName) ({ cls := "QuotedRiverModel", name := "meet", desc := "(II)I" } : Jvm.MethodName)) ∈ lw_all := lw_g (lw_at lw_m9 44 rfl) rfl
theorem q2057 : (Jvm.Cond.code ({ cls := "QuotedRiverModel", name := "meet", desc := "(II)I" } : Jvm.MethodName) prog_14_method_73_code (4 : Nat) (Option.some Jvm.ClassFile.FieldType.int)) ∈ lw_all := lw_g (lw_at lw_m9 45 rfl) rfl
theorem q2059 : (Jvm.Cond.instanceMethod ({ cls := "QuotedRiverModel", name := "alike", desc := "(II)I" } : Jvm.MethodName)) ∈ lw_all := lw_g (lw_at lw_m9 47 rfl) rfl
theorem q2060 : (Jvm.Cond.selects "QuotedRiverModel" ({ cls := "QuotedRiverModel", name := "alike", desc := "(II)I" } : Jvm.MethodName) ({ cls := "QuotedRiverModel", name := "alike", desc := "(II)I" } : Jvm.MethodName)) ∈ lw_all := lw_g (lw_at lw_m9 48 rfl) rfl
theorem q2061 : (Jvm.Cond.code ({ cls := "QuotedRiverModel", name := "alike", desc := "(II)I" } : Jvm.MethodName) prog_14_method_74_code (5 : Nat) (Option.some Jvm.ClassFile.FieldType.int)) ∈ lw_all := lw_g (lw_at lw_m9 49 rfl) rfl
theorem q2063 : (Jvm.Cond.instanceMethod ({ cls := "QuotedRiverModel", name := "busy", desc := "(I)I" } : Jvm.MethodName)) ∈ lw_all := lw_g (lw_at lw_m9 51 rfl) rfl
theorem q2064 : (Jvm.Cond.selects "QuotedRiverModel" ({ cls := "QuotedRiverModel", name := "busy", desc := "(I)I" } : Jvm.MethodName) ({ cls := "QuotedRiverModel", name := "busy", desc := "(I)I" } : Jvm.MethodName)) ∈ lw_all := lw_g (lw_at lw_m9 52 rfl) rfl
theorem q2065 : (Jvm.Cond.code ({ cls := "QuotedRiverModel", name := "busy", desc := "(I)I" } : Jvm.MethodName) prog_14_method_75_code (4 : Nat) (Option.some Jvm.ClassFile.FieldType.int)) ∈ lw_all := lw_g (lw_at lw_m9 53 rfl) rfl
theorem q2067 : (Jvm.Cond.instanceMethod ({ cls := "QuotedRiverModel", name := "soon", desc := "(II)I" } : Jvm.MethodName)) ∈ lw_all := lw_g (lw_at lw_m9 55 rfl) rfl
theorem q2068 : (Jvm.Cond.selects "QuotedRiverModel" ({ cls := "QuotedRiverModel", name := "soon", desc := "(II)I" } : Jvm.MethodName) ({ cls := "QuotedRiverModel", name := "soon", desc := "(II)I" } : Jvm.MethodName)) ∈ lw_all := lw_g (lw_at lw_m9 56 rfl) rfl
theorem q2069 : (Jvm.Cond.code ({ cls := "QuotedRiverModel", name := "soon", desc := "(II)I" } : Jvm.MethodName) prog_14_method_77_code (7 : Nat) (Option.some Jvm.ClassFile.FieldType.int)) ∈ lw_all := lw_g (lw_at lw_m9 57 rfl) rfl
theorem q2070 : (Jvm.Cond.methodLink "QuotedRiverModel" (294 : Nat) ({ cls := "QuotedRiverModel", name := "areTwo", desc := "(II)Z" } : Jvm.MethodName)) ∈ lw_all := lw_g (lw_at lw_m9 58 rfl) rfl
theorem q2071 : (Jvm.Cond.privateMethod ({ cls := "QuotedRiverModel", name := "areTwo", desc := "(II)Z" } : Jvm.MethodName)) ∈ lw_tbl := lw_at lw_m9 59 rfl
theorem q2072 : (Jvm.Cond.instanceMethod ({ cls := "QuotedRiverModel", name := "areTwo", desc := "(II)Z" } : Jvm.MethodName)) ∈ lw_all := lw_g (lw_at lw_m9 60 rfl) rfl
theorem q2073 : (Jvm.Cond.code ({ cls := "QuotedRiverModel", name := "areTwo", desc := "(II)Z" } : Jvm.MethodName) prog_14_method_76_code (3 : Nat) (Option.some Jvm.ClassFile.FieldType.boolean)) ∈ lw_all := lw_g (lw_at lw_m9 61 rfl) rfl
theorem q2074 : (Jvm.Cond.constant "QuotedRiverModel" (297 : Nat) (1000000000 : Int32)) ∈ lw_all := lw_g (lw_at lw_m9 62 rfl) rfl
theorem q2076 : (Jvm.Cond.instanceMethod ({ cls := "QuotedRiverModel", name := "quick", desc := "(II)I" } : Jvm.MethodName)) ∈ lw_all := lw_g (lw_at lw_m9 64 rfl) rfl
theorem q2077 : (Jvm.Cond.selects "QuotedRiverModel" ({ cls := "QuotedRiverModel", name := "quick", desc := "(II)I" } : Jvm.MethodName) ({ cls := "QuotedRiverModel", name := "quick", desc := "(II)I" } : Jvm.MethodName)) ∈ lw_all := lw_g (lw_at lw_m9 65 rfl) rfl
theorem q2078 : (Jvm.Cond.code ({ cls := "QuotedRiverModel", name := "quick", desc := "(II)I" } : Jvm.MethodName) prog_14_method_79_code (3 : Nat) (Option.some Jvm.ClassFile.FieldType.int)) ∈ lw_all := lw_g (lw_at lw_m9 66 rfl) rfl
theorem q2079 : (Jvm.Cond.methodLink "QuotedRiverModel" (301 : Nat) ({ cls := "QuotedRiverModel", name := "quickOf", desc := "(II)I" } : Jvm.MethodName)) ∈ lw_all := lw_g (lw_at lw_m9 67 rfl) rfl
theorem q2080 : (Jvm.Cond.privateMethod ({ cls := "QuotedRiverModel", name := "quickOf", desc := "(II)I" } : Jvm.MethodName)) ∈ lw_tbl := lw_at lw_m9 68 rfl
theorem q2081 : (Jvm.Cond.instanceMethod ({ cls := "QuotedRiverModel", name := "quickOf", desc := "(II)I" } : Jvm.MethodName)) ∈ lw_all := lw_g (lw_at lw_m9 69 rfl) rfl
theorem q2082 : (Jvm.Cond.code ({ cls := "QuotedRiverModel", name := "quickOf", desc := "(II)I" } : Jvm.MethodName) prog_14_method_78_code (6 : Nat) (Option.some Jvm.ClassFile.FieldType.int)) ∈ lw_all := lw_g (lw_at lw_m9 70 rfl) rfl
theorem q2084 : (Jvm.Cond.instanceMethod ({ cls := "QuotedRiverModel", name := "quickly", desc := "(II)I" } : Jvm.MethodName)) ∈ lw_all := lw_g (lw_at lw_m9 72 rfl) rfl
theorem q2085 : (Jvm.Cond.selects "QuotedRiverModel" ({ cls := "QuotedRiverModel", name := "quickly", desc := "(II)I" } : Jvm.MethodName) ({ cls := "QuotedRiverModel", name := "quickly", desc := "(II)I" } : Jvm.MethodName)) ∈ lw_all := lw_g (lw_at lw_m9 73 rfl) rfl
theorem q2086 : (Jvm.Cond.code ({ cls := "QuotedRiverModel", name := "quickly", desc := "(II)I" } : Jvm.MethodName) prog_14_method_80_code (3 : Nat) (Option.some Jvm.ClassFile.FieldType.int)) ∈ lw_all := lw_g (lw_at lw_m9 74 rfl) rfl
theorem q2088 : (Jvm.Cond.instanceMethod ({ cls := "QuotedRiverModel", name := "slowly", desc := "(II)I" } : Jvm.MethodName)) ∈ lw_all := lw_g (lw_at lw_m9 76 rfl) rfl
theorem q2089 : (Jvm.Cond.selects "QuotedRiverModel" ({ cls := "QuotedRiverModel", name := "slowly", desc := "(II)I" } : Jvm.MethodName) ({ cls := "QuotedRiverModel", name := "slowly", desc := "(II)I" } : Jvm.MethodName)) ∈ lw_all := lw_g (lw_at lw_m9 77 rfl) rfl
theorem q2090 : (Jvm.Cond.code ({ cls := "QuotedRiverModel", name := "slowly", desc := "(II)I" } : Jvm.MethodName) prog_14_method_81_code (6 : Nat) (Option.some Jvm.ClassFile.FieldType.int)) ∈ lw_all := lw_g (lw_at lw_m9 78 rfl) rfl
theorem q2092 : (Jvm.Cond.instanceMethod ({ cls := "QuotedRiverModel", name := "late", desc := "(III)I" } : Jvm.MethodName)) ∈ lw_all := lw_g (lw_at lw_m9 80 rfl) rfl
theorem q2093 : (Jvm.Cond.selects "QuotedRiverModel" ({ cls := "QuotedRiverModel", name := "late", desc := "(III)I" } : Jvm.MethodName) ({ cls := "QuotedRiverModel", name := "late", desc := "(III)I" } : Jvm.MethodName)) ∈ lw_all := lw_g (lw_at lw_m9 81 rfl) rfl
theorem q2094 : (Jvm.Cond.code ({ cls := "QuotedRiverModel", name := "late", desc := "(III)I" } : Jvm.MethodName) prog_14_method_82_code (5 : Nat) (Option.some Jvm.ClassFile.FieldType.int)) ∈ lw_all := lw_g (lw_at lw_m9 82 rfl) rfl
theorem q2096 : (Jvm.Cond.instanceMethod ({ cls := "QuotedRiverModel", name := "often", desc := "(II)I" } : Jvm.MethodName)) ∈ lw_all := lw_g (lw_at lw_m9 84 rfl) rfl
theorem q2097 : (Jvm.Cond.selects "QuotedRiverModel" ({ cls := "QuotedRiverModel", name := "often", desc := "(II)I" } : Jvm.MethodName) ({ cls := "QuotedRiverModel", name := "often", desc := "(II)I" } : Jvm.MethodName)) ∈ lw_all := lw_g (lw_at lw_m9 85 rfl) rfl
theorem q2098 : (Jvm.Cond.code ({ cls := "QuotedRiverModel", name := "often", desc := "(II)I" } : Jvm.MethodName) prog_14_method_84_code (3 : Nat) (Option.some Jvm.ClassFile.FieldType.int)) ∈ lw_all := lw_g (lw_at lw_m9 86 rfl) rfl
theorem q2099 : (Jvm.Cond.methodLink "QuotedRiverModel" (304 : Nat) ({ cls := "QuotedRiverModel", name := "oftenOf", desc := "(II)I" } : Jvm.MethodName)) ∈ lw_all := lw_g (lw_at lw_m9 87 rfl) rfl
theorem q2100 : (Jvm.Cond.privateMethod ({ cls := "QuotedRiverModel", name := "oftenOf", desc := "(II)I" } : Jvm.MethodName)) ∈ lw_tbl := lw_at lw_m9 88 rfl
theorem q2101 : (Jvm.Cond.instanceMethod ({ cls := "QuotedRiverModel", name := "oftenOf", desc := "(II)I" } : Jvm.MethodName)) ∈ lw_all := lw_g (lw_at lw_m9 89 rfl) rfl
theorem q2102 : (Jvm.Cond.code ({ cls := "QuotedRiverModel", name := "oftenOf", desc := "(II)I" } : Jvm.MethodName) prog_14_method_83_code (5 : Nat) (Option.some Jvm.ClassFile.FieldType.int)) ∈ lw_all := lw_g (lw_at lw_m9 90 rfl) rfl
theorem q2104 : (Jvm.Cond.instanceMethod ({ cls := "QuotedRiverModel", name := "stop", desc := "(II)I" } : Jvm.MethodName)) ∈ lw_all := lw_g (lw_at lw_m9 92 rfl) rfl
theorem q2105 : (Jvm.Cond.selects "QuotedRiverModel" ({ cls := "QuotedRiverModel", name := "stop", desc := "(II)I" } : Jvm.MethodName) ({ cls := "QuotedRiverModel", name := "stop", desc := "(II)I" } : Jvm.MethodName)) ∈ lw_all := lw_g (lw_at lw_m9 93 rfl) rfl
theorem q2106 : (Jvm.Cond.code ({ cls := "QuotedRiverModel", name := "stop", desc := "(II)I" } : Jvm.MethodName) prog_14_method_86_code (4 : Nat) (Option.some Jvm.ClassFile.FieldType.int)) ∈ lw_all := lw_g (lw_at lw_m9 94 rfl) rfl
theorem q2107 : (Jvm.Cond.methodLink "QuotedRiverModel" (310 : Nat) ({ cls := "QuotedRiverModel", name := "stopsOf", desc := "(II)I" } : Jvm.MethodName)) ∈ lw_all := lw_g (lw_at lw_m9 95 rfl) rfl
theorem q2108 : (Jvm.Cond.privateMethod ({ cls := "QuotedRiverModel", name := "stopsOf", desc := "(II)I" } : Jvm.MethodName)) ∈ lw_tbl := lw_at lw_m9 96 rfl
theorem q2109 : (Jvm.Cond.instanceMethod ({ cls := "QuotedRiverModel", name := "stopsOf", desc := "(II)I" } : Jvm.MethodName)) ∈ lw_all := lw_g (lw_at lw_m9 97 rfl) rfl
theorem q2110 : (Jvm.Cond.code ({ cls := "QuotedRiverModel", name := "stopsOf", desc := "(II)I" } : Jvm.MethodName) prog_14_method_85_code (5 : Nat) (Option.some Jvm.ClassFile.FieldType.int)) ∈ lw_all := lw_g (lw_at lw_m9 98 rfl) rfl
theorem q2111 : (Jvm.Cond.methodLink "QuotedRiverModel" (307 : Nat) ({ cls := "QuotedRiverModel", name := "bits", desc := "(I)I" } : Jvm.MethodName)) ∈ lw_all := lw_g (lw_at lw_m9 99 rfl) rfl
theorem q2112 : (Jvm.Cond.static ({ cls := "QuotedRiverModel", name := "bits", desc := "(I)I" } : Jvm.MethodName)) ∈ lw_all := lw_g (lw_at lw_m9 100 rfl) rfl
theorem q2113 : (Jvm.Cond.code ({ cls := "QuotedRiverModel", name := "bits", desc := "(I)I" } : Jvm.MethodName) prog_14_method_4_code (3 : Nat) (Option.some Jvm.ClassFile.FieldType.int)) ∈ lw_all := lw_g (lw_at lw_m9 101 rfl) rfl
theorem q2115 : (Jvm.Cond.instanceMethod ({ cls := "QuotedRiverModel", name := "stops", desc := "(II)I" } : Jvm.MethodName)) ∈ lw_all := lw_g (lw_at lw_m9 103 rfl) rfl
theorem q2116 : (Jvm.Cond.selects "QuotedRiverModel" ({ cls := "QuotedRiverModel", name := "stops", desc := "(II)I" } : Jvm.MethodName) ({ cls := "QuotedRiverModel", name := "stops", desc := "(II)I" } : Jvm.MethodName)) ∈ lw_all := lw_g (lw_at lw_m9 104 rfl) rfl
theorem q2117 : (Jvm.Cond.code ({ cls := "QuotedRiverModel", name := "stops", desc := "(II)I" } : Jvm.MethodName) prog_14_method_87_code (3 : Nat) (Option.some Jvm.ClassFile.FieldType.int)) ∈ lw_all := lw_g (lw_at lw_m9 105 rfl) rfl
theorem q2119 : (Jvm.Cond.instanceMethod ({ cls := "QuotedRiverModel", name := "shut", desc := "(II)I" } : Jvm.MethodName)) ∈ lw_all := lw_g (lw_at lw_m9 107 rfl) rfl
theorem q2120 : (Jvm.Cond.selects "QuotedRiverModel" ({ cls := "QuotedRiverModel", name := "shut", desc := "(II)I" } : Jvm.MethodName) ({ cls := "QuotedRiverModel", name := "shut", desc := "(II)I" } : Jvm.MethodName)) ∈ lw_all := lw_g (lw_at lw_m9 108 rfl) rfl
theorem q2121 : (Jvm.Cond.code ({ cls := "QuotedRiverModel", name := "shut", desc := "(II)I" } : Jvm.MethodName) prog_14_method_89_code (8 : Nat) (Option.some Jvm.ClassFile.FieldType.int)) ∈ lw_all := lw_g (lw_at lw_m9 109 rfl) rfl
theorem q2122 : (Jvm.Cond.methodLink "QuotedRiverModel" (313 : Nat) ({ cls := "QuotedRiverModel", name := "seaOf", desc := "(II)I" } : Jvm.MethodName)) ∈ lw_all := lw_g (lw_at lw_m9 110 rfl) rfl
theorem q2123 : (Jvm.Cond.privateMethod ({ cls := "QuotedRiverModel", name := "seaOf", desc := "(II)I" } : Jvm.MethodName)) ∈ lw_tbl := lw_at lw_m9 111 rfl
theorem q2124 : (Jvm.Cond.instanceMethod ({ cls := "QuotedRiverModel", name := "seaOf", desc := "(II)I" } : Jvm.MethodName)) ∈ lw_all := lw_g (lw_at lw_m9 112 rfl) rfl
theorem q2125 : (Jvm.Cond.code ({ cls := "QuotedRiverModel", name := "seaOf", desc := "(II)I" } : Jvm.MethodName) prog_14_method_88_code (4 : Nat) (Option.some Jvm.ClassFile.FieldType.int)) ∈ lw_all := lw_g (lw_at lw_m9 113 rfl) rfl
theorem q2127 : (Jvm.Cond.instanceMethod ({ cls := "QuotedRiverModel", name := "pour", desc := "(III)I" } : Jvm.MethodName)) ∈ lw_all := lw_g (lw_at lw_m9 115 rfl) rfl
theorem q2128 : (Jvm.Cond.selects "QuotedRiverModel" ({ cls := "QuotedRiverModel", name := "pour", desc := "(III)I" } : Jvm.MethodName) ({ cls := "QuotedRiverModel", name := "pour", desc := "(III)I" } : Jvm.MethodName)) ∈ lw_all := lw_g (lw_at lw_m9 116 rfl) rfl
theorem q2129 : (Jvm.Cond.code ({ cls := "QuotedRiverModel", name := "pour", desc := "(III)I" } : Jvm.MethodName) prog_14_method_90_code (6 : Nat) (Option.some Jvm.ClassFile.FieldType.int)) ∈ lw_all := lw_g (lw_at lw_m9 117 rfl) rfl
theorem q2131 : (Jvm.Cond.instanceMethod ({ cls := "QuotedRiverModel", name := "fits", desc := "(I)I" } : Jvm.MethodName)) ∈ lw_all := lw_g (lw_at lw_m9 119 rfl) rfl
theorem q2132 : (Jvm.Cond.selects "QuotedRiverModel" ({ cls := "QuotedRiverModel", name := "fits", desc := "(I)I" } : Jvm.MethodName) ({ cls := "QuotedRiverModel", name := "fits", desc := "(I)I" } : Jvm.MethodName)) ∈ lw_all := lw_g (lw_at lw_m9 120 rfl) rfl
theorem q2133 : (Jvm.Cond.code ({ cls := "QuotedRiverModel", name := "fits", desc := "(I)I" } : Jvm.MethodName) prog_14_method_95_code (3 : Nat) (Option.some Jvm.ClassFile.FieldType.int)) ∈ lw_all := lw_g (lw_at lw_m9 121 rfl) rfl
theorem q2134 : (Jvm.Cond.methodLink "QuotedRiverModel" (333 : Nat) ({ cls := "QuotedRiverModel", name := "layPairs", desc := "(I)I" } : Jvm.MethodName)) ∈ lw_all := lw_g (lw_at lw_m9 122 rfl) rfl
theorem q2135 : (Jvm.Cond.privateMethod ({ cls := "QuotedRiverModel", name := "layPairs", desc := "(I)I" } : Jvm.MethodName)) ∈ lw_tbl := lw_at lw_m9 123 rfl
theorem q2136 : (Jvm.Cond.instanceMethod ({ cls := "QuotedRiverModel", name := "layPairs", desc := "(I)I" } : Jvm.MethodName)) ∈ lw_all := lw_g (lw_at lw_m9 124 rfl) rfl
theorem q2137 : (Jvm.Cond.code ({ cls := "QuotedRiverModel", name := "layPairs", desc := "(I)I" } : Jvm.MethodName) prog_14_method_94_code (6 : Nat) (Option.some Jvm.ClassFile.FieldType.int)) ∈ lw_all := lw_g (lw_at lw_m9 125 rfl) rfl
theorem q2138 : (Jvm.Cond.methodLink "QuotedRiverModel" (323 : Nat) ({ cls := "QuotedRiverModel", name := "askSeen", desc := "(IZ)I" } : Jvm.MethodName)) ∈ lw_all := lw_g (lw_at lw_m9 126 rfl) rfl
theorem q2139 : (Jvm.Cond.privateMethod ({ cls := "QuotedRiverModel", name := "askSeen", desc := "(IZ)I" } : Jvm.MethodName)) ∈ lw_tbl := lw_at lw_m9 127 rfl
theorem q2140 : (Jvm.Cond.instanceMethod ({ cls := "QuotedRiverModel", name := "askSeen", desc := "(IZ)I" } : Jvm.MethodName)) ∈ lw_all := lw_g (lw_at lw_m9 128 rfl) rfl
theorem q2141 : (Jvm.Cond.code ({ cls := "QuotedRiverModel", name := "askSeen", desc := "(IZ)I" } : Jvm.MethodName) prog_14_method_92_code (4 : Nat) (Option.some Jvm.ClassFile.FieldType.int)) ∈ lw_all := lw_g (lw_at lw_m9 129 rfl) rfl
theorem q2142 : (Jvm.Cond.methodLink "QuotedRiverModel" (316 : Nat) ({ cls := "QuotedRiverModel", name := "isSlot", desc := "(I)Z" } : Jvm.MethodName)) ∈ lw_all := lw_g (lw_at lw_m9 130 rfl) rfl
theorem q2143 : (Jvm.Cond.static ({ cls := "QuotedRiverModel", name := "isSlot", desc := "(I)Z" } : Jvm.MethodName)) ∈ lw_all := lw_g (lw_at lw_m9 131 rfl) rfl
theorem q2144 : (Jvm.Cond.code ({ cls := "QuotedRiverModel", name := "isSlot", desc := "(I)Z" } : Jvm.MethodName) prog_14_method_129_code (1 : Nat) (Option.some Jvm.ClassFile.FieldType.boolean)) ∈ lw_all := lw_g (lw_at lw_m9 132 rfl) rfl
theorem q2145 : (Jvm.Cond.methodLink "QuotedRiverModel" (319 : Nat) ({ cls := "QuotedRiverModel", name := "numberAt", desc := "(II)J" } : Jvm.MethodName)) ∈ lw_all := lw_g (lw_at lw_m9 133 rfl) rfl
theorem q2146 : (Jvm.Cond.privateMethod ({ cls := "QuotedRiverModel", name := "numberAt", desc := "(II)J" } : Jvm.MethodName)) ∈ lw_tbl := lw_at lw_m9 134 rfl
theorem q2147 : (Jvm.Cond.instanceMethod ({ cls := "QuotedRiverModel", name := "numberAt", desc := "(II)J" } : Jvm.MethodName)) ∈ lw_all := lw_g (lw_at lw_m9 135 rfl) rfl
theorem q2148 : (Jvm.Cond.code ({ cls := "QuotedRiverModel", name := "numberAt", desc := "(II)J" } : Jvm.MethodName) prog_14_method_91_code (3 : Nat) (Option.some Jvm.ClassFile.FieldType.long)) ∈ lw_all := lw_g (lw_at lw_m9 136 rfl) rfl
theorem q2149 : (Jvm.Cond.methodLink "QuotedRiverModel" (330 : Nat) ({ cls := "QuotedRiverModel", name := "isSeen", desc := "(I)Z" } : Jvm.MethodName)) ∈ lw_all := lw_g (lw_at lw_m9 137 rfl) rfl
theorem q2150 : (Jvm.Cond.privateMethod ({ cls := "QuotedRiverModel", name := "isSeen", desc := "(I)Z" } : Jvm.MethodName)) ∈ lw_tbl := lw_at lw_m9 138 rfl
theorem q2151 : (Jvm.Cond.instanceMethod ({ cls := "QuotedRiverModel", name := "isSeen", desc := "(I)Z" } : Jvm.MethodName)) ∈ lw_all := lw_g (lw_at lw_m9 139 rfl) rfl
theorem q2152 : (Jvm.Cond.code ({ cls := "QuotedRiverModel", name := "isSeen", desc := "(I)Z" } : Jvm.MethodName) prog_14_method_93_code (3 : Nat) (Option.some Jvm.ClassFile.FieldType.boolean)) ∈ lw_all := lw_g (lw_at lw_m9 140 rfl) rfl
theorem q2154 : (Jvm.Cond.instanceMethod ({ cls := "QuotedRiverModel", name := "sources", desc := "(I)I" } : Jvm.MethodName)) ∈ lw_all := lw_g (lw_at lw_m9 142 rfl) rfl
theorem q2155 : (Jvm.Cond.selects "QuotedRiverModel" ({ cls := "QuotedRiverModel", name := "sources", desc := "(I)I" } : Jvm.MethodName) ({ cls := "QuotedRiverModel", name := "sources", desc := "(I)I" } : Jvm.MethodName)) ∈ lw_all := lw_g (lw_at lw_m9 143 rfl) rfl
theorem q2156 : (Jvm.Cond.code ({ cls := "QuotedRiverModel", name := "sources", desc := "(I)I" } : Jvm.MethodName) prog_14_method_96_code (5 : Nat) (Option.some Jvm.ClassFile.FieldType.int)) ∈ lw_all := lw_g (lw_at lw_m9 144 rfl) rfl
theorem q2158 : (Jvm.Cond.instanceMethod ({ cls := "QuotedRiverModel", name := "source", desc := "(I)I" } : Jvm.MethodName)) ∈ lw_all := lw_g (lw_at lw_m9 146 rfl) rfl
theorem q2159 : (Jvm.Cond.selects "QuotedRiverModel" ({ cls := "QuotedRiverModel", name := "source", desc := "(I)I" } : Jvm.MethodName) ({ cls := "QuotedRiverModel", name := "source", desc := "(I)I" } : Jvm.MethodName)) ∈ lw_all := lw_g (lw_at lw_m9 147 rfl) rfl
theorem q2160 : (Jvm.Cond.code ({ cls := "QuotedRiverModel", name := "source", desc := "(I)I" } : Jvm.MethodName) prog_14_method_97_code (3 : Nat) (Option.some Jvm.ClassFile.FieldType.int)) ∈ lw_all := lw_g (lw_at lw_m9 148 rfl) rfl
theorem q2162 : (Jvm.Cond.instanceMethod ({ cls := "QuotedRiverModel", name := "ask", desc := "(I)I" } : Jvm.MethodName)) ∈ lw_all := lw_g (lw_at lw_m9 150 rfl) rfl
theorem q2163 : (Jvm.Cond.selects "QuotedRiverModel" ({ cls := "QuotedRiverModel", name := "ask", desc := "(I)I" } : Jvm.MethodName) ({ cls := "QuotedRiverModel", name := "ask", desc := "(I)I" } : Jvm.MethodName)) ∈ lw_all := lw_g (lw_at lw_m9 151 rfl) rfl
theorem q2164 : (Jvm.Cond.code ({ cls := "QuotedRiverModel", name := "ask", desc := "(I)I" } : Jvm.MethodName) prog_14_method_99_code (3 : Nat) (Option.some Jvm.ClassFile.FieldType.int)) ∈ lw_all := lw_g (lw_at lw_m9 152 rfl) rfl
theorem q2165 : (Jvm.Cond.methodLink "QuotedRiverModel" (339 : Nat) ({ cls := "QuotedRiverModel", name := "askOf", desc := "()I" } : Jvm.MethodName)) ∈ lw_all := lw_g (lw_at lw_m9 153 rfl) rfl
theorem q2166 : (Jvm.Cond.privateMethod ({ cls := "QuotedRiverModel", name := "askOf", desc := "()I" } : Jvm.MethodName)) ∈ lw_tbl := lw_at lw_m9 154 rfl
theorem q2167 : (Jvm.Cond.instanceMethod ({ cls := "QuotedRiverModel", name := "askOf", desc := "()I" } : Jvm.MethodName)) ∈ lw_all := lw_g (lw_at lw_m9 155 rfl) rfl
theorem q2168 : (Jvm.Cond.code ({ cls := "QuotedRiverModel", name := "askOf", desc := "()I" } : Jvm.MethodName) prog_14_method_98_code (7 : Nat) (Option.some Jvm.ClassFile.FieldType.int)) ∈ lw_all := lw_g (lw_at lw_m9 156 rfl) rfl
theorem q2170 : (Jvm.Cond.instanceMethod ({ cls := "QuotedRiverModel", name := "doubts", desc := "(I)I" } : Jvm.MethodName)) ∈ lw_all := lw_g (lw_at lw_m9 158 rfl) rfl
theorem q2171 : (Jvm.Cond.selects "QuotedRiverModel" ({ cls := "QuotedRiverModel", name := "doubts", desc := "(I)I" } : Jvm.MethodName) ({ cls := "QuotedRiverModel", name := "doubts", desc := "(I)I" } : Jvm.MethodName)) ∈ lw_all := lw_g (lw_at lw_m9 159 rfl) rfl
theorem q2172 : (Jvm.Cond.code ({ cls := "QuotedRiverModel", name := "doubts", desc := "(I)I" } : Jvm.MethodName) prog_14_method_100_code (3 : Nat) (Option.some Jvm.ClassFile.FieldType.int)) ∈ lw_all := lw_g (lw_at lw_m9 160 rfl) rfl
theorem q2174 : (Jvm.Cond.instanceMethod ({ cls := "QuotedRiverModel", name := "turn", desc := "(III)I" } : Jvm.MethodName)) ∈ lw_all := lw_g (lw_at lw_m9 162 rfl) rfl
theorem q2175 : (Jvm.Cond.selects "QuotedRiverModel" ({ cls := "QuotedRiverModel", name := "turn", desc := "(III)I" } : Jvm.MethodName) ({ cls := "QuotedRiverModel", name := "turn", desc := "(III)I" } : Jvm.MethodName)) ∈ lw_all := lw_g (lw_at lw_m9 163 rfl) rfl
theorem q2176 : (Jvm.Cond.code ({ cls := "QuotedRiverModel", name := "turn", desc := "(III)I" } : Jvm.MethodName) prog_14_method_102_code (4 : Nat) (Option.some Jvm.ClassFile.FieldType.int)) ∈ lw_all := lw_g (lw_at lw_m9 164 rfl) rfl
theorem q2177 : (Jvm.Cond.methodLink "QuotedRiverModel" (345 : Nat) ({ cls := "QuotedRiverModel", name := "layTurns", desc := "(III)I" } : Jvm.MethodName)) ∈ lw_all := lw_g (lw_at lw_m9 165 rfl) rfl
theorem q2178 : (Jvm.Cond.privateMethod ({ cls := "QuotedRiverModel", name := "layTurns", desc := "(III)I" } : Jvm.MethodName)) ∈ lw_tbl := lw_at lw_m9 166 rfl
theorem q2179 : (Jvm.Cond.instanceMethod ({ cls := "QuotedRiverModel", name := "layTurns", desc := "(III)I" } : Jvm.MethodName)) ∈ lw_all := lw_g (lw_at lw_m9 167 rfl) rfl
theorem q2180 : (Jvm.Cond.code ({ cls := "QuotedRiverModel", name := "layTurns", desc := "(III)I" } : Jvm.MethodName) prog_14_method_101_code (8 : Nat) (Option.some Jvm.ClassFile.FieldType.int)) ∈ lw_all := lw_g (lw_at lw_m9 168 rfl) rfl
theorem q2182 : (Jvm.Cond.instanceMethod ({ cls := "QuotedRiverModel", name := "turned", desc := "(III)I" } : Jvm.MethodName)) ∈ lw_all := lw_g (lw_at lw_m9 170 rfl) rfl
theorem q2183 : (Jvm.Cond.selects "QuotedRiverModel" ({ cls := "QuotedRiverModel", name := "turned", desc := "(III)I" } : Jvm.MethodName) ({ cls := "QuotedRiverModel", name := "turned", desc := "(III)I" } : Jvm.MethodName)) ∈ lw_all := lw_g (lw_at lw_m9 171 rfl) rfl
theorem q2184 : (Jvm.Cond.code ({ cls := "QuotedRiverModel", name := "turned", desc := "(III)I" } : Jvm.MethodName) prog_14_method_103_code (5 : Nat) (Option.some Jvm.ClassFile.FieldType.int)) ∈ lw_all := lw_g (lw_at lw_m9 172 rfl) rfl
theorem q2186 : (Jvm.Cond.instanceMethod ({ cls := "QuotedRiverModel", name := "rests", desc := "()I" } : Jvm.MethodName)) ∈ lw_all := lw_g (lw_at lw_m9 174 rfl) rfl
theorem q2187 : (Jvm.Cond.selects "QuotedRiverModel" ({ cls := "QuotedRiverModel", name := "rests", desc := "()I" } : Jvm.MethodName) ({ cls := "QuotedRiverModel", name := "rests", desc := "()I" } : Jvm.MethodName)) ∈ lw_all := lw_g (lw_at lw_m9 175 rfl) rfl
theorem q2188 : (Jvm.Cond.code ({ cls := "QuotedRiverModel", name := "rests", desc := "()I" } : Jvm.MethodName) prog_14_method_106_code (3 : Nat) (Option.some Jvm.ClassFile.FieldType.int)) ∈ lw_all := lw_g (lw_at lw_m9 176 rfl) rfl
theorem q2189 : (Jvm.Cond.methodLink "QuotedRiverModel" (352 : Nat) ({ cls := "QuotedRiverModel", name := "isRest", desc := "(II)Z" } : Jvm.MethodName)) ∈ lw_all := lw_g (lw_at lw_m9 177 rfl) rfl
theorem q2190 : (Jvm.Cond.static ({ cls := "QuotedRiverModel", name := "isRest", desc := "(II)Z" } : Jvm.MethodName)) ∈ lw_all := lw_g (lw_at lw_m9 178 rfl) rfl
theorem q2191 : (Jvm.Cond.code ({ cls := "QuotedRiverModel", name := "isRest", desc := "(II)Z" } : Jvm.MethodName) prog_14_method_105_code (3 : Nat) (Option.some Jvm.ClassFile.FieldType.boolean)) ∈ lw_all := lw_g (lw_at lw_m9 179 rfl) rfl
theorem q2192 : (Jvm.Cond.methodLink "QuotedRiverModel" (349 : Nat) ({ cls := "QuotedRiverModel", name := "hasBy", desc := "(II)I" } : Jvm.MethodName)) ∈ lw_all := lw_g (lw_at lw_m9 180 rfl) rfl
theorem q2193 : (Jvm.Cond.static ({ cls := "QuotedRiverModel", name := "hasBy", desc := "(II)I" } : Jvm.MethodName)) ∈ lw_all := lw_g (lw_at lw_m9 181 rfl) rfl
theorem q2194 : (Jvm.Cond.code ({ cls := "QuotedRiverModel", name := "hasBy", desc := "(II)I" } : Jvm.MethodName) prog_14_method_104_code (2 : Nat) (Option.some Jvm.ClassFile.FieldType.int)) ∈ lw_all := lw_g (lw_at lw_m9 182 rfl) rfl
theorem q2196 : (Jvm.Cond.instanceMethod ({ cls := "QuotedRiverModel", name := "rest", desc := "()I" } : Jvm.MethodName)) ∈ lw_all := lw_g (lw_at lw_m9 184 rfl) rfl
theorem q2197 : (Jvm.Cond.selects "QuotedRiverModel" ({ cls := "QuotedRiverModel", name := "rest", desc := "()I" } : Jvm.MethodName) ({ cls := "QuotedRiverModel", name := "rest", desc := "()I" } : Jvm.MethodName)) ∈ lw_all := lw_g (lw_at lw_m9 185 rfl) rfl
theorem q2198 : (Jvm.Cond.code ({ cls := "QuotedRiverModel", name := "rest", desc := "()I" } : Jvm.MethodName) prog_14_method_107_code (2 : Nat) (Option.some Jvm.ClassFile.FieldType.int)) ∈ lw_all := lw_g (lw_at lw_m9 186 rfl) rfl
theorem q2200 : (Jvm.Cond.instanceMethod ({ cls := "QuotedRiverModel", name := "has", desc := "(II)I" } : Jvm.MethodName)) ∈ lw_all := lw_g (lw_at lw_m9 188 rfl) rfl
theorem q2201 : (Jvm.Cond.selects "QuotedRiverModel" ({ cls := "QuotedRiverModel", name := "has", desc := "(II)I" } : Jvm.MethodName) ({ cls := "QuotedRiverModel", name := "has", desc := "(II)I" } : Jvm.MethodName)) ∈ lw_all := lw_g (lw_at lw_m9 189 rfl) rfl
theorem q2202 : (Jvm.Cond.code ({ cls := "QuotedRiverModel", name := "has", desc := "(II)I" } : Jvm.MethodName) prog_14_method_108_code (3 : Nat) (Option.some Jvm.ClassFile.FieldType.int)) ∈ lw_all := lw_g (lw_at lw_m9 190 rfl) rfl
theorem q2203 : (Jvm.Cond.constantLong "QuotedRiverModel" (355 : Nat) (4 : Int64)) ∈ lw_all := lw_g (lw_at lw_m9 191 rfl) rfl
theorem q2205 : (Jvm.Cond.instanceMethod ({ cls := "QuotedRiverModel", name := "answer", desc := "(I)I" } : Jvm.MethodName)) ∈ lw_all := lw_g (lw_at lw_m9 193 rfl) rfl
theorem q2206 : (Jvm.Cond.selects "QuotedRiverModel" ({ cls := "QuotedRiverModel", name := "answer", desc := "(I)I" } : Jvm.MethodName) ({ cls := "QuotedRiverModel", name := "answer", desc := "(I)I" } : Jvm.MethodName)) ∈ lw_all := lw_g (lw_at lw_m9 194 rfl) rfl
theorem q2207 : (Jvm.Cond.code ({ cls := "QuotedRiverModel", name := "answer", desc := "(I)I" } : Jvm.MethodName) prog_14_method_109_code (4 : Nat) (Option.some Jvm.ClassFile.FieldType.int)) ∈ lw_all := lw_g (lw_at lw_m9 195 rfl) rfl
theorem q2209 : (Jvm.Cond.instanceMethod ({ cls := "QuotedRiverModel", name := "treaty", desc := "()I" } : Jvm.MethodName)) ∈ lw_all := lw_g (lw_at lw_m9 197 rfl) rfl
theorem q2210 : (Jvm.Cond.selects "QuotedRiverModel" ({ cls := "QuotedRiverModel", name := "treaty", desc := "()I" } : Jvm.MethodName) ({ cls := "QuotedRiverModel", name := "treaty", desc := "()I" } : Jvm.MethodName)) ∈ lw_all := lw_g (lw_at lw_m9 198 rfl) rfl
theorem q2211 : (Jvm.Cond.code ({ cls := "QuotedRiverModel", name := "treaty", desc := "()I" } : Jvm.MethodName) prog_14_method_110_code (3 : Nat) (Option.some Jvm.ClassFile.FieldType.int)) ∈ lw_all := lw_g (lw_at lw_m9 199 rfl) rfl
theorem q2213 : (Jvm.Cond.instanceMethod ({ cls := "QuotedRiverModel", name := "chance", desc := "(III)J" } : Jvm.MethodName)) ∈ lw_all := lw_g (lw_at lw_m9 201 rfl) rfl
theorem q2214 : (Jvm.Cond.selects "QuotedRiverModel" ({ cls := "QuotedRiverModel", name := "chance", desc := "(III)J" } : Jvm.MethodName) ({ cls := "QuotedRiverModel", name := "chance", desc := "(III)J" } : Jvm.MethodName)) ∈ lw_all := lw_g (lw_at lw_m9 202 rfl) rfl
theorem q2215 : (Jvm.Cond.code ({ cls := "QuotedRiverModel", name := "chance", desc := "(III)J" } : Jvm.MethodName) prog_14_method_115_code (8 : Nat) (Option.some Jvm.ClassFile.FieldType.long)) ∈ lw_all := lw_g (lw_at lw_m9 203 rfl) rfl
theorem q2216 : (Jvm.Cond.constantLong "QuotedRiverModel" (357 : Nat) (14 : Int64)) ∈ lw_all := lw_g (lw_at lw_m9 204 rfl) rfl
theorem q2217 : (Jvm.Cond.constantLong "QuotedRiverModel" (359 : Nat) (99 : Int64)) ∈ lw_all := lw_g (lw_at lw_m9 205 rfl) rfl
theorem q2218 : (Jvm.Cond.constantLong "QuotedRiverModel" (361 : Nat) (-2 : Int64)) ∈ lw_all := lw_g (lw_at lw_m9 206 rfl) rfl
theorem q2219 : (Jvm.Cond.methodLink "QuotedRiverModel" (363 : Nat) ({ cls := "QuotedRiverModel", name := "startWeights", desc := "()V" } : Jvm.MethodName)) ∈ lw_all := lw_g (lw_at lw_m9 207 rfl) rfl
theorem q2220 : (Jvm.Cond.privateMethod ({ cls := "QuotedRiverModel", name := "startWeights", desc := "()V" } : Jvm.MethodName)) ∈ lw_tbl := lw_at lw_m9 208 rfl
theorem q2221 : (Jvm.Cond.instanceMethod ({ cls := "QuotedRiverModel", name := "startWeights", desc := "()V" } : Jvm.MethodName)) ∈ lw_all := lw_g (lw_at lw_m9 209 rfl) rfl
theorem q2222 : (Jvm.Cond.code ({ cls := "QuotedRiverModel", name := "startWeights", desc := "()V" } : Jvm.MethodName) prog_14_method_111_code (2 : Nat) (Option.none : Option Jvm.ClassFile.FieldType)) ∈ lw_all := lw_g (lw_at lw_m9 210 rfl) rfl
theorem q2223 : (Jvm.Cond.methodLink "QuotedRiverModel" (366 : Nat) ({ cls := "QuotedRiverModel", name := "stepWeights", desc := "(I)V" } : Jvm.MethodName)) ∈ lw_all := lw_g (lw_at lw_m9 211 rfl) rfl
theorem q2224 : (Jvm.Cond.privateMethod ({ cls := "QuotedRiverModel", name := "stepWeights", desc := "(I)V" } : Jvm.MethodName)) ∈ lw_tbl := lw_at lw_m9 212 rfl
theorem q2225 : (Jvm.Cond.instanceMethod ({ cls := "QuotedRiverModel", name := "stepWeights", desc := "(I)V" } : Jvm.MethodName)) ∈ lw_all := lw_g (lw_at lw_m9 213 rfl) rfl
theorem q2226 : (Jvm.Cond.code ({ cls := "QuotedRiverModel", name := "stepWeights", desc := "(I)V" } : Jvm.MethodName) prog_14_method_112_code (4 : Nat) (Option.none : Option Jvm.ClassFile.FieldType)) ∈ lw_all := lw_g (lw_at lw_m9 214 rfl) rfl
theorem q2227 : (Jvm.Cond.methodLink "QuotedRiverModel" (369 : Nat) ({ cls := "QuotedRiverModel", name := "weightFrom", desc := "(II)J" } : Jvm.MethodName)) ∈ lw_all := lw_g (lw_at lw_m9 215 rfl) rfl
theorem q2228 : (Jvm.Cond.privateMethod ({ cls := "QuotedRiverModel", name := "weightFrom", desc := "(II)J" } : Jvm.MethodName)) ∈ lw_tbl := lw_at lw_m9 216 rfl
theorem q2229 : (Jvm.Cond.instanceMethod ({ cls := "QuotedRiverModel", name := "weightFrom", desc := "(II)J" } : Jvm.MethodName)) ∈ lw_all := lw_g (lw_at lw_m9 217 rfl) rfl
theorem q2230 : (Jvm.Cond.code ({ cls := "QuotedRiverModel", name := "weightFrom", desc := "(II)J" } : Jvm.MethodName) prog_14_method_113_code (6 : Nat) (Option.some Jvm.ClassFile.FieldType.long)) ∈ lw_all := lw_g (lw_at lw_m9 218 rfl) rfl
theorem q2231 : (Jvm.Cond.methodLink "QuotedRiverModel" (372 : Nat) ({ cls := "QuotedRiverModel", name := "divisor", desc := "(JJ)J" } : Jvm.MethodName)) ∈ lw_all := lw_g (lw_at lw_m9 219 rfl) rfl
theorem q2232 : (Jvm.Cond.static ({ cls := "QuotedRiverModel", name := "divisor", desc := "(JJ)J" } : Jvm.MethodName)) ∈ lw_all := lw_g (lw_at lw_m9 220 rfl) rfl
theorem q2233 : (Jvm.Cond.code ({ cls := "QuotedRiverModel", name := "divisor", desc := "(JJ)J" } : Jvm.MethodName) prog_14_method_114_code (10 : Nat) (Option.some Jvm.ClassFile.FieldType.long)) ∈ lw_all := lw_g (lw_at lw_m9 221 rfl) rfl
theorem q2235 : (Jvm.Cond.instanceMethod ({ cls := "QuotedRiverModel", name := "mean", desc := "(II)J" } : Jvm.MethodName)) ∈ lw_all := lw_g (lw_at lw_m9 223 rfl) rfl
theorem q2236 : (Jvm.Cond.selects "QuotedRiverModel" ({ cls := "QuotedRiverModel", name := "mean", desc := "(II)J" } : Jvm.MethodName) ({ cls := "QuotedRiverModel", name := "mean", desc := "(II)J" } : Jvm.MethodName)) ∈ lw_all := lw_g (lw_at lw_m9 224 rfl) rfl
theorem q2237 : (Jvm.Cond.code ({ cls := "QuotedRiverModel", name := "mean", desc := "(II)J" } : Jvm.MethodName) prog_14_method_116_code (7 : Nat) (Option.some Jvm.ClassFile.FieldType.long)) ∈ lw_all := lw_g (lw_at lw_m9 225 rfl) rfl
theorem q2239 : (Jvm.Cond.instanceMethod ({ cls := "QuotedRiverModel", name := "risk", desc := "(II)I" } : Jvm.MethodName)) ∈ lw_all := lw_g (lw_at lw_m9 227 rfl) rfl
theorem q2240 : (Jvm.Cond.selects "QuotedRiverModel" ({ cls := "QuotedRiverModel", name := "risk", desc := "(II)I" } : Jvm.MethodName) ({ cls := "QuotedRiverModel", name := "risk", desc := "(II)I" } : Jvm.MethodName)) ∈ lw_all := lw_g (lw_at lw_m9 228 rfl) rfl
theorem q2241 : (Jvm.Cond.code ({ cls := "QuotedRiverModel", name := "risk", desc := "(II)I" } : Jvm.MethodName) prog_14_method_117_code (4 : Nat) (Option.some Jvm.ClassFile.FieldType.int)) ∈ lw_all := lw_g (lw_at lw_m9 229 rfl) rfl
theorem q2242 : (Jvm.Cond.constantLong "QuotedRiverModel" (376 : Nat) (100 : Int64)) ∈ lw_all := lw_g (lw_at lw_m9 230 rfl) rfl
theorem q2244 : (Jvm.Cond.instanceMethod ({ cls := "QuotedRiverModel", name := "close", desc := "(II)I" } : Jvm.MethodName)) ∈ lw_all := lw_g (lw_at lw_m9 232 rfl) rfl
theorem q2245 : (Jvm.Cond.selects "QuotedRiverModel" ({ cls := "QuotedRiverModel", name := "close", desc := "(II)I" } : Jvm.MethodName) ({ cls := "QuotedRiverModel", name := "close", desc := "(II)I" } : Jvm.MethodName)) ∈ lw_all := lw_g (lw_at lw_m9 233 rfl) rfl
theorem q2246 : (Jvm.Cond.code ({ cls := "QuotedRiverModel", name := "close", desc := "(II)I" } : Jvm.MethodName) prog_14_method_119_code (4 : Nat) (Option.some Jvm.ClassFile.FieldType.int)) ∈ lw_all := lw_g (lw_at lw_m9 234 rfl) rfl
theorem q2247 : (Jvm.Cond.methodLink "QuotedRiverModel" (378 : Nat) ({ cls := "QuotedRiverModel", name := "keepAct", desc := "(I)I" } : Jvm.MethodName)) ∈ lw_all := lw_g (lw_at lw_m9 235 rfl) rfl
theorem q2248 : (Jvm.Cond.privateMethod ({ cls := "QuotedRiverModel", name := "keepAct", desc := "(I)I" } : Jvm.MethodName)) ∈ lw_tbl := lw_at lw_m9 236 rfl
theorem q2249 : (Jvm.Cond.instanceMethod ({ cls := "QuotedRiverModel", name := "keepAct", desc := "(I)I" } : Jvm.MethodName)) ∈ lw_all := lw_g (lw_at lw_m9 237 rfl) rfl
theorem q2250 : (Jvm.Cond.code ({ cls := "QuotedRiverModel", name := "keepAct", desc := "(I)I" } : Jvm.MethodName) prog_14_method_118_code (2 : Nat) (Option.some Jvm.ClassFile.FieldType.int)) ∈ lw_all := lw_g (lw_at lw_m9 238 rfl) rfl
theorem q2252 : (Jvm.Cond.instanceMethod ({ cls := "QuotedRiverModel", name := "pours", desc := "(II)I" } : Jvm.MethodName)) ∈ lw_all := lw_g (lw_at lw_m10 0 rfl) rfl
theorem q2253 : (Jvm.Cond.selects "QuotedRiverModel" ({ cls := "QuotedRiverModel", name := "pours", desc := "(II)I" } : Jvm.MethodName) ({ cls := "QuotedRiverModel", name := "pours", desc := "(II)I" } : Jvm.MethodName)) ∈ lw_all := lw_g (lw_at lw_m10 1 rfl) rfl
theorem q2254 : (Jvm.Cond.code ({ cls := "QuotedRiverModel", name := "pours", desc := "(II)I" } : Jvm.MethodName) prog_14_method_120_code (3 : Nat) (Option.some Jvm.ClassFile.FieldType.int)) ∈ lw_all := lw_g (lw_at lw_m10 2 rfl) rfl
theorem q2255 : (Jvm.Cond.constantLong "QuotedRiverModel" (381 : Nat) (30 : Int64)) ∈ lw_all := lw_g (lw_at lw_m10 3 rfl) rfl
theorem q2257 : (Jvm.Cond.instanceMethod ({ cls := "QuotedRiverModel", name := "undo", desc := "()I" } : Jvm.MethodName)) ∈ lw_all := lw_g (lw_at lw_m10 5 rfl) rfl
theorem q2258 : (Jvm.Cond.selects "QuotedRiverModel" ({ cls := "QuotedRiverModel", name := "undo", desc := "()I" } : Jvm.MethodName) ({ cls := "QuotedRiverModel", name := "undo", desc := "()I" } : Jvm.MethodName)) ∈ lw_all := lw_g (lw_at lw_m10 6 rfl) rfl
theorem q2259 : (Jvm.Cond.code ({ cls := "QuotedRiverModel", name := "undo", desc := "()I" } : Jvm.MethodName) prog_14_method_121_code (1 : Nat) (Option.some Jvm.ClassFile.FieldType.int)) ∈ lw_all := lw_g (lw_at lw_m10 7 rfl) rfl
theorem q2261 : (Jvm.Cond.instanceMethod ({ cls := "QuotedRiverModel", name := "anew", desc := "()I" } : Jvm.MethodName)) ∈ lw_all := lw_g (lw_at lw_m10 9 rfl) rfl
theorem q2262 : (Jvm.Cond.selects "QuotedRiverModel" ({ cls := "QuotedRiverModel", name := "anew", desc := "()I" } : Jvm.MethodName) ({ cls := "QuotedRiverModel", name := "anew", desc := "()I" } : Jvm.MethodName)) ∈ lw_all := lw_g (lw_at lw_m10 10 rfl) rfl
theorem q2263 : (Jvm.Cond.code ({ cls := "QuotedRiverModel", name := "anew", desc := "()I" } : Jvm.MethodName) prog_14_method_122_code (2 : Nat) (Option.some Jvm.ClassFile.FieldType.int)) ∈ lw_all := lw_g (lw_at lw_m10 11 rfl) rfl
theorem q2265 : (Jvm.Cond.instanceMethod ({ cls := "QuotedRiverModel", name := "drawn", desc := "(II)I" } : Jvm.MethodName)) ∈ lw_all := lw_g (lw_at lw_m10 13 rfl) rfl
theorem q2266 : (Jvm.Cond.selects "QuotedRiverModel" ({ cls := "QuotedRiverModel", name := "drawn", desc := "(II)I" } : Jvm.MethodName) ({ cls := "QuotedRiverModel", name := "drawn", desc := "(II)I" } : Jvm.MethodName)) ∈ lw_all := lw_g (lw_at lw_m10 14 rfl) rfl
theorem q2267 : (Jvm.Cond.code ({ cls := "QuotedRiverModel", name := "drawn", desc := "(II)I" } : Jvm.MethodName) prog_14_method_125_code (3 : Nat) (Option.some Jvm.ClassFile.FieldType.int)) ∈ lw_all := lw_g (lw_at lw_m10 15 rfl) rfl
theorem q2268 : (Jvm.Cond.methodLink "QuotedRiverModel" (398 : Nat) ({ cls := "QuotedRiverModel", name := "isSeed", desc := "(I)Z" } : Jvm.MethodName)) ∈ lw_all := lw_g (lw_at lw_m10 16 rfl) rfl
theorem q2269 : (Jvm.Cond.static ({ cls := "QuotedRiverModel", name := "isSeed", desc := "(I)Z" } : Jvm.MethodName)) ∈ lw_all := lw_g (lw_at lw_m10 17 rfl) rfl
theorem q2270 : (Jvm.Cond.code ({ cls := "QuotedRiverModel", name := "isSeed", desc := "(I)Z" } : Jvm.MethodName) prog_14_method_124_code (1 : Nat) (Option.some Jvm.ClassFile.FieldType.boolean)) ∈ lw_all := lw_g (lw_at lw_m10 18 rfl) rfl
theorem q2271 : (Jvm.Cond.constantLong "QuotedRiverModel" (396 : Nat) (2000000000 : Int64)) ∈ lw_all := lw_g (lw_at lw_m10 19 rfl) rfl
theorem q2272 : (Jvm.Cond.methodLink "QuotedRiverModel" (401 : Nat) ({ cls := "QuotedRiverModel", name := "goDrawn", desc := "(J)V" } : Jvm.MethodName)) ∈ lw_all := lw_g (lw_at lw_m10 20 rfl) rfl
theorem q2273 : (Jvm.Cond.privateMethod ({ cls := "QuotedRiverModel", name := "goDrawn", desc := "(J)V" } : Jvm.MethodName)) ∈ lw_tbl := lw_at lw_m10 21 rfl
theorem q2274 : (Jvm.Cond.instanceMethod ({ cls := "QuotedRiverModel", name := "goDrawn", desc := "(J)V" } : Jvm.MethodName)) ∈ lw_all := lw_g (lw_at lw_m10 22 rfl) rfl
theorem q2275 : (Jvm.Cond.code ({ cls := "QuotedRiverModel", name := "goDrawn", desc := "(J)V" } : Jvm.MethodName) prog_14_method_123_code (6 : Nat) (Option.none : Option Jvm.ClassFile.FieldType)) ∈ lw_all := lw_g (lw_at lw_m10 23 rfl) rfl
theorem q2276 : (Jvm.Cond.constantLong "QuotedRiverModel" (386 : Nat) (1103515245 : Int64)) ∈ lw_all := lw_g (lw_at lw_m10 24 rfl) rfl
theorem q2277 : (Jvm.Cond.constantLong "QuotedRiverModel" (388 : Nat) (12345 : Int64)) ∈ lw_all := lw_g (lw_at lw_m10 25 rfl) rfl
theorem q2278 : (Jvm.Cond.constantLong "QuotedRiverModel" (390 : Nat) (2147483648 : Int64)) ∈ lw_all := lw_g (lw_at lw_m10 26 rfl) rfl
theorem q2279 : (Jvm.Cond.constantLong "QuotedRiverModel" (392 : Nat) (65536 : Int64)) ∈ lw_all := lw_g (lw_at lw_m10 27 rfl) rfl
theorem q2280 : (Jvm.Cond.constantLong "QuotedRiverModel" (394 : Nat) (10 : Int64)) ∈ lw_all := lw_g (lw_at lw_m10 28 rfl) rfl
theorem q2282 : (Jvm.Cond.instanceMethod ({ cls := "QuotedRiverModel", name := "luck", desc := "(III)I" } : Jvm.MethodName)) ∈ lw_all := lw_g (lw_at lw_m10 30 rfl) rfl
theorem q2283 : (Jvm.Cond.selects "QuotedRiverModel" ({ cls := "QuotedRiverModel", name := "luck", desc := "(III)I" } : Jvm.MethodName) ({ cls := "QuotedRiverModel", name := "luck", desc := "(III)I" } : Jvm.MethodName)) ∈ lw_all := lw_g (lw_at lw_m10 31 rfl) rfl
theorem q2284 : (Jvm.Cond.code ({ cls := "QuotedRiverModel", name := "luck", desc := "(III)I" } : Jvm.MethodName) prog_14_method_126_code (6 : Nat) (Option.some Jvm.ClassFile.FieldType.int)) ∈ lw_all := lw_g (lw_at lw_m10 32 rfl) rfl
theorem q2285 : (Jvm.Cond.constantLong "QuotedRiverModel" (405 : Nat) (20 : Int64)) ∈ lw_all := lw_g (lw_at lw_m10 33 rfl) rfl
theorem q2287 : (Jvm.Cond.instanceMethod ({ cls := "QuotedRiverModel", name := "deepen", desc := "(II)I" } : Jvm.MethodName)) ∈ lw_all := lw_g (lw_at lw_m10 35 rfl) rfl
theorem q2288 : (Jvm.Cond.selects "QuotedRiverModel" ({ cls := "QuotedRiverModel", name := "deepen", desc := "(II)I" } : Jvm.MethodName) ({ cls := "QuotedRiverModel", name := "deepen", desc := "(II)I" } : Jvm.MethodName)) ∈ lw_all := lw_g (lw_at lw_m10 36 rfl) rfl
theorem q2289 : (Jvm.Cond.code ({ cls := "QuotedRiverModel", name := "deepen", desc := "(II)I" } : Jvm.MethodName) prog_14_method_127_code (4 : Nat) (Option.some Jvm.ClassFile.FieldType.int)) ∈ lw_all := lw_g (lw_at lw_m10 37 rfl) rfl
theorem q2291 : (Jvm.Cond.instanceMethod ({ cls := "QuotedRiverModel", name := "count", desc := "(I)I" } : Jvm.MethodName)) ∈ lw_all := lw_g (lw_at lw_m10 39 rfl) rfl
theorem q2292 : (Jvm.Cond.selects "QuotedRiverModel" ({ cls := "QuotedRiverModel", name := "count", desc := "(I)I" } : Jvm.MethodName) ({ cls := "QuotedRiverModel", name := "count", desc := "(I)I" } : Jvm.MethodName)) ∈ lw_all := lw_g (lw_at lw_m10 40 rfl) rfl
theorem q2293 : (Jvm.Cond.code ({ cls := "QuotedRiverModel", name := "count", desc := "(I)I" } : Jvm.MethodName) prog_14_method_128_code (4 : Nat) (Option.some Jvm.ClassFile.FieldType.int)) ∈ lw_all := lw_g (lw_at lw_m10 41 rfl) rfl
theorem q2294 : (Jvm.Cond.constantLong "QuotedRiverModel" (407 : Nat) (7 : Int64)) ∈ lw_all := lw_g (lw_at lw_m10 42 rfl) rfl
theorem q2296 : (Jvm.Cond.instanceMethod ({ cls := "QuotedRiverModel", name := "row", desc := "(III)I" } : Jvm.MethodName)) ∈ lw_all := lw_g (lw_at lw_m10 44 rfl) rfl
theorem q2297 : (Jvm.Cond.selects "QuotedRiverModel" ({ cls := "QuotedRiverModel", name := "row", desc := "(III)I" } : Jvm.MethodName) ({ cls := "QuotedRiverModel", name := "row", desc := "(III)I" } : Jvm.MethodName)) ∈ lw_all := lw_g (lw_at lw_m10 45 rfl) rfl
theorem q2298 : (Jvm.Cond.code ({ cls := "QuotedRiverModel", name := "row", desc := "(III)I" } : Jvm.MethodName) prog_14_method_131_code (5 : Nat) (Option.some Jvm.ClassFile.FieldType.int)) ∈ lw_all := lw_g (lw_at lw_m10 46 rfl) rfl
theorem q2300 : (Jvm.Cond.instanceMethod ({ cls := "QuotedRiverModel", name := "write", desc := "(IIJ)I" } : Jvm.MethodName)) ∈ lw_all := lw_g (lw_at lw_m10 48 rfl) rfl
theorem q2301 : (Jvm.Cond.selects "QuotedRiverModel" ({ cls := "QuotedRiverModel", name := "write", desc := "(IIJ)I" } : Jvm.MethodName) ({ cls := "QuotedRiverModel", name := "write", desc := "(IIJ)I" } : Jvm.MethodName)) ∈ lw_all := lw_g (lw_at lw_m10 49 rfl) rfl
theorem q2302 : (Jvm.Cond.code ({ cls := "QuotedRiverModel", name := "write", desc := "(IIJ)I" } : Jvm.MethodName) prog_14_method_132_code (5 : Nat) (Option.some Jvm.ClassFile.FieldType.int)) ∈ lw_all := lw_g (lw_at lw_m10 50 rfl) rfl
theorem q2303 : (Jvm.Cond.methodLink "QuotedRiverModel" (409 : Nat) ({ cls := "QuotedRiverModel", name := "cut", desc := "(JI)J" } : Jvm.MethodName)) ∈ lw_all := lw_g (lw_at lw_m10 51 rfl) rfl
theorem q2304 : (Jvm.Cond.static ({ cls := "QuotedRiverModel", name := "cut", desc := "(JI)J" } : Jvm.MethodName)) ∈ lw_all := lw_g (lw_at lw_m10 52 rfl) rfl
theorem q2305 : (Jvm.Cond.code ({ cls := "QuotedRiverModel", name := "cut", desc := "(JI)J" } : Jvm.MethodName) prog_14_method_130_code (4 : Nat) (Option.some Jvm.ClassFile.FieldType.long)) ∈ lw_all := lw_g (lw_at lw_m10 53 rfl) rfl
theorem q2307 : (Jvm.Cond.instanceMethod ({ cls := "QuotedRiverModel", name := "paste", desc := "(IIIII)I" } : Jvm.MethodName)) ∈ lw_all := lw_g (lw_at lw_m10 55 rfl) rfl
theorem q2308 : (Jvm.Cond.selects "QuotedRiverModel" ({ cls := "QuotedRiverModel", name := "paste", desc := "(IIIII)I" } : Jvm.MethodName) ({ cls := "QuotedRiverModel", name := "paste", desc := "(IIIII)I" } : Jvm.MethodName)) ∈ lw_all := lw_g (lw_at lw_m10 56 rfl) rfl
theorem q2309 : (Jvm.Cond.code ({ cls := "QuotedRiverModel", name := "paste", desc := "(IIIII)I" } : Jvm.MethodName) prog_14_method_133_code (7 : Nat) (Option.some Jvm.ClassFile.FieldType.int)) ∈ lw_all := lw_g (lw_at lw_m10 57 rfl) rfl
theorem q2321 : (Jvm.Cond.castable "QuotedRiverModel" "java/lang/Object") ∈ lw_tbl := lw_at lw_m10 69 rfl
theorem in_X6 : ∀ w ∈ wsX60, w ∈ lw_all := lw_in wsX60 [1669, 1671, 1673, 1675, 1677, 1679, 1681, 1683, 1685, 1687, 1689, 1691, 1693, 1695, 1697, 1699, 1701, 1703, 1705, 1707, 1709, 1711, 1713, 1715, 1717, 1719, 1721, 1723, 1725, 1727, 1729, 1731, 1733, 1735, 1737, 1739, 1741, 1743, 1745, 1747, 1749, 1751] (by decide +kernel) (by decide +kernel)
theorem q103 : (Jvm.Cond.initialized "QuotedRiver$Reader") ∈ lw_all := lw_g (lw_at lw_m1 11 rfl) rfl
theorem q389 : (Jvm.Cond.fieldLinkNest "QuotedRiver$Reader" (94 : Nat) "QuotedRiver$Rivers" "reaches" "Ljava/util/List;" "QuotedRiver") ∈ lw_tbl := lw_at lw_m2 57 rfl
theorem q393 : (Jvm.Cond.fieldLinkNest "QuotedRiver$Reader" (137 : Nat) "QuotedRiver$Rivers" "joins" "Ljava/util/List;" "QuotedRiver") ∈ lw_tbl := lw_at lw_m2 61 rfl
theorem q397 : (Jvm.Cond.fieldLinkNest "QuotedRiver$Reader" (155 : Nat) "QuotedRiver$Rivers" "rains" "Ljava/util/List;" "QuotedRiver") ∈ lw_tbl := lw_at lw_m2 65 rfl
theorem q404 : (Jvm.Cond.fieldLinkNest "QuotedRiver$Reader" (165 : Nat) "QuotedRiver$Rivers" "level" "I" "QuotedRiver") ∈ lw_tbl := lw_at lw_m2 72 rfl
theorem q408 : (Jvm.Cond.fieldLinkNest "QuotedRiver$Reader" (169 : Nat) "QuotedRiver$Rivers" "odds" "I" "QuotedRiver") ∈ lw_tbl := lw_at lw_m2 76 rfl
theorem q412 : (Jvm.Cond.fieldLinkNest "QuotedRiver$Reader" (173 : Nat) "QuotedRiver$Rivers" "swell" "I" "QuotedRiver") ∈ lw_tbl := lw_at lw_m2 80 rfl
theorem q416 : (Jvm.Cond.fieldLinkNest "QuotedRiver$Reader" (175 : Nat) "QuotedRiver$Rivers" "lines" "I" "QuotedRiver") ∈ lw_tbl := lw_at lw_m2 84 rfl
theorem q616 : (Jvm.Cond.instantiable "QuotedRiver$Reader" (7 : Nat)) ∈ lw_all := lw_g (lw_at lw_m3 44 rfl) rfl
theorem q618 : (Jvm.Cond.instanceMethod ({ cls := "QuotedRiver$Reader", name := "<init>", desc := "([BI)V" } : Jvm.MethodName)) ∈ lw_all := lw_g (lw_at lw_m3 46 rfl) rfl
theorem q619 : (Jvm.Cond.code ({ cls := "QuotedRiver$Reader", name := "<init>", desc := "([BI)V" } : Jvm.MethodName) prog_7_method_1_code (3 : Nat) (Option.none : Option Jvm.ClassFile.FieldType)) ∈ lw_all := lw_g (lw_at lw_m3 47 rfl) rfl
theorem q620 : (Jvm.Cond.methodLink "QuotedRiver$Reader" (3 : Nat) ({ cls := "java/lang/Object", name := "<init>", desc := "()V" } : Jvm.MethodName)) ∈ lw_all := lw_g (lw_at lw_m3 48 rfl) rfl
theorem q621 : (Jvm.Cond.classLink "QuotedRiver$Reader" (9 : Nat) "QuotedRiver$Rivers") ∈ lw_all := lw_g (lw_at lw_m3 49 rfl) rfl
theorem q622 : (Jvm.Cond.methodLinkNest "QuotedRiver$Reader" (11 : Nat) ({ cls := "QuotedRiver$Rivers", name := "<init>", desc := "()V" } : Jvm.MethodName) "QuotedRiver") ∈ lw_tbl := lw_at lw_m3 50 rfl
theorem q623 : (Jvm.Cond.methodLink "QuotedRiver$Reader" (26 : Nat) ({ cls := "QuotedRiver$Reader", name := "next", desc := "()V" } : Jvm.MethodName)) ∈ lw_all := lw_g (lw_at lw_m3 51 rfl) rfl
theorem q624 : (Jvm.Cond.privateMethod ({ cls := "QuotedRiver$Reader", name := "next", desc := "()V" } : Jvm.MethodName)) ∈ lw_tbl := lw_at lw_m3 52 rfl
theorem q625 : (Jvm.Cond.instanceMethod ({ cls := "QuotedRiver$Reader", name := "next", desc := "()V" } : Jvm.MethodName)) ∈ lw_all := lw_g (lw_at lw_m3 53 rfl) rfl
theorem q626 : (Jvm.Cond.code ({ cls := "QuotedRiver$Reader", name := "next", desc := "()V" } : Jvm.MethodName) prog_7_method_3_code (1 : Nat) (Option.none : Option Jvm.ClassFile.FieldType)) ∈ lw_all := lw_g (lw_at lw_m3 54 rfl) rfl
theorem q627 : (Jvm.Cond.methodLink "QuotedRiver$Reader" (36 : Nat) ({ cls := "QuotedRiver$Reader", name := "isAt", desc := "(II)Z" } : Jvm.MethodName)) ∈ lw_all := lw_g (lw_at lw_m3 55 rfl) rfl
theorem q628 : (Jvm.Cond.privateMethod ({ cls := "QuotedRiver$Reader", name := "isAt", desc := "(II)Z" } : Jvm.MethodName)) ∈ lw_tbl := lw_at lw_m3 56 rfl
theorem q629 : (Jvm.Cond.instanceMethod ({ cls := "QuotedRiver$Reader", name := "isAt", desc := "(II)Z" } : Jvm.MethodName)) ∈ lw_all := lw_g (lw_at lw_m3 57 rfl) rfl
theorem q630 : (Jvm.Cond.code ({ cls := "QuotedRiver$Reader", name := "isAt", desc := "(II)Z" } : Jvm.MethodName) prog_7_method_2_code (3 : Nat) (Option.some Jvm.ClassFile.FieldType.boolean)) ∈ lw_all := lw_g (lw_at lw_m3 58 rfl) rfl
theorem q631 : (Jvm.Cond.methodLinkNest "QuotedRiver$Reader" (32 : Nat) ({ cls := "QuotedRiver", name := "in", desc := "(JJJ)Z" } : Jvm.MethodName) "QuotedRiver") ∈ lw_tbl := lw_at lw_m3 59 rfl
theorem q632 : (Jvm.Cond.constant "QuotedRiver$Reader" (49 : Nat) (99999 : Int32)) ∈ lw_all := lw_g (lw_at lw_m3 60 rfl) rfl
theorem q633 : (Jvm.Cond.methodLink "QuotedRiver$Reader" (50 : Nat) ({ cls := "java/lang/Math", name := "min", desc := "(II)I" } : Jvm.MethodName)) ∈ lw_all := lw_g (lw_at lw_m3 61 rfl) rfl
theorem q636 : (Jvm.Cond.fieldLink "QuotedRiver$Reader" (18 : Nat) "QuotedRiver$Reader" "text" "[B") ∈ lw_all := lw_g (lw_at lw_m3 64 rfl) rfl
theorem q637 : (Jvm.Cond.fieldLink "QuotedRiver$Reader" (22 : Nat) "QuotedRiver$Reader" "many" "I") ∈ lw_all := lw_g (lw_at lw_m3 65 rfl) rfl
theorem q638 : (Jvm.Cond.fieldLink "QuotedRiver$Reader" (12 : Nat) "QuotedRiver$Reader" "\x72" "LQuotedRiver$Rivers;") ∈ lw_all := lw_g (lw_at lw_m3 66 rfl) rfl
theorem q639 : (Jvm.Cond.fieldLink "QuotedRiver$Reader" (29 : Nat) "QuotedRiver$Reader" "at" "I") ∈ lw_all := lw_g (lw_at lw_m3 67 rfl) rfl
theorem q640 : (Jvm.Cond.fieldLink "QuotedRiver$Reader" (40 : Nat) "QuotedRiver$Reader" "begin" "I") ∈ lw_all := lw_g (lw_at lw_m3 68 rfl) rfl
theorem q641 : (Jvm.Cond.fieldLink "QuotedRiver$Reader" (46 : Nat) "QuotedRiver$Reader" "token" "I") ∈ lw_all := lw_g (lw_at lw_m3 69 rfl) rfl
theorem q642 : (Jvm.Cond.fieldLink "QuotedRiver$Reader" (43 : Nat) "QuotedRiver$Reader" "value" "I") ∈ lw_all := lw_g (lw_at lw_m3 70 rfl) rfl
theorem q643 : (Jvm.Cond.laysFinal "QuotedRiver$Reader" "QuotedRiver$Reader" "text" "[B") ∈ lw_all := lw_g (lw_at lw_m3 71 rfl) rfl
theorem q644 : (Jvm.Cond.soleField "QuotedRiver$Reader" "text") ∈ lw_all := lw_g (lw_at lw_m3 72 rfl) rfl
theorem q645 : (Jvm.Cond.laysFinal "QuotedRiver$Reader" "QuotedRiver$Reader" "many" "I") ∈ lw_all := lw_g (lw_at lw_m3 73 rfl) rfl
theorem q646 : (Jvm.Cond.soleField "QuotedRiver$Reader" "many") ∈ lw_all := lw_g (lw_at lw_m3 74 rfl) rfl
theorem q647 : (Jvm.Cond.laysFinal "QuotedRiver$Reader" "QuotedRiver$Reader" "\x72" "LQuotedRiver$Rivers;") ∈ lw_all := lw_g (lw_at lw_m3 75 rfl) rfl
theorem q648 : (Jvm.Cond.soleField "QuotedRiver$Reader" "\x72") ∈ lw_all := lw_g (lw_at lw_m3 76 rfl) rfl
theorem q649 : (Jvm.Cond.lays "QuotedRiver$Reader" "QuotedRiver$Reader" "at" "I") ∈ lw_all := lw_g (lw_at lw_m3 77 rfl) rfl
theorem q650 : (Jvm.Cond.soleField "QuotedRiver$Reader" "at") ∈ lw_all := lw_g (lw_at lw_m3 78 rfl) rfl
theorem q651 : (Jvm.Cond.lays "QuotedRiver$Reader" "QuotedRiver$Reader" "begin" "I") ∈ lw_all := lw_g (lw_at lw_m3 79 rfl) rfl
theorem q652 : (Jvm.Cond.soleField "QuotedRiver$Reader" "begin") ∈ lw_all := lw_g (lw_at lw_m3 80 rfl) rfl
theorem q653 : (Jvm.Cond.lays "QuotedRiver$Reader" "QuotedRiver$Reader" "token" "I") ∈ lw_all := lw_g (lw_at lw_m3 81 rfl) rfl
theorem q654 : (Jvm.Cond.soleField "QuotedRiver$Reader" "token") ∈ lw_all := lw_g (lw_at lw_m3 82 rfl) rfl
theorem q655 : (Jvm.Cond.lays "QuotedRiver$Reader" "QuotedRiver$Reader" "value" "I") ∈ lw_all := lw_g (lw_at lw_m3 83 rfl) rfl
theorem q656 : (Jvm.Cond.soleField "QuotedRiver$Reader" "value") ∈ lw_all := lw_g (lw_at lw_m3 84 rfl) rfl
theorem q657 : (Jvm.Cond.superclass "QuotedRiver$Reader" "java/lang/Object") ∈ lw_all := lw_g (lw_at lw_m3 85 rfl) rfl
theorem q659 : (Jvm.Cond.instanceMethod ({ cls := "QuotedRiver$Reader", name := "reads", desc := "()LQuotedRiver$Rivers;" } : Jvm.MethodName)) ∈ lw_all := lw_g (lw_at lw_m3 87 rfl) rfl
theorem q660 : (Jvm.Cond.selects "QuotedRiver$Reader" ({ cls := "QuotedRiver$Reader", name := "reads", desc := "()LQuotedRiver$Rivers;" } : Jvm.MethodName) ({ cls := "QuotedRiver$Reader", name := "reads", desc := "()LQuotedRiver$Rivers;" } : Jvm.MethodName)) ∈ lw_all := lw_g (lw_at lw_m3 88 rfl) rfl
theorem q661 : (Jvm.Cond.code ({ cls := "QuotedRiver$Reader", name := "reads", desc := "()LQuotedRiver$Rivers;" } : Jvm.MethodName) prog_7_method_16_code (3 : Nat) (Option.some (Jvm.ClassFile.FieldType.object "QuotedRiver$Rivers"))) ∈ lw_all := lw_g (lw_at lw_m3 89 rfl) rfl
theorem q662 : (Jvm.Cond.methodLink "QuotedRiver$Reader" (178 : Nat) ({ cls := "QuotedRiver$Reader", name := "riversLine", desc := "()V" } : Jvm.MethodName)) ∈ lw_all := lw_g (lw_at lw_m3 90 rfl) rfl
theorem q663 : (Jvm.Cond.privateMethod ({ cls := "QuotedRiver$Reader", name := "riversLine", desc := "()V" } : Jvm.MethodName)) ∈ lw_tbl := lw_at lw_m3 91 rfl
theorem q664 : (Jvm.Cond.instanceMethod ({ cls := "QuotedRiver$Reader", name := "riversLine", desc := "()V" } : Jvm.MethodName)) ∈ lw_all := lw_g (lw_at lw_m3 92 rfl) rfl
theorem q665 : (Jvm.Cond.code ({ cls := "QuotedRiver$Reader", name := "riversLine", desc := "()V" } : Jvm.MethodName) prog_7_method_15_code (1 : Nat) (Option.none : Option Jvm.ClassFile.FieldType)) ∈ lw_all := lw_g (lw_at lw_m3 93 rfl) rfl
theorem q666 : (Jvm.Cond.stringRef "QuotedRiver$Reader" (161 : Nat) "rivers") ∈ lw_tbl := lw_at lw_m3 94 rfl
theorem q667 : (Jvm.Cond.methodLink "QuotedRiver$Reader" (82 : Nat) ({ cls := "QuotedRiver$Reader", name := "asks", desc := "(Ljava/lang/String;)V" } : Jvm.MethodName)) ∈ lw_all := lw_g (lw_at lw_m3 95 rfl) rfl
theorem q668 : (Jvm.Cond.privateMethod ({ cls := "QuotedRiver$Reader", name := "asks", desc := "(Ljava/lang/String;)V" } : Jvm.MethodName)) ∈ lw_tbl := lw_at lw_m3 96 rfl
theorem q669 : (Jvm.Cond.instanceMethod ({ cls := "QuotedRiver$Reader", name := "asks", desc := "(Ljava/lang/String;)V" } : Jvm.MethodName)) ∈ lw_all := lw_g (lw_at lw_m3 97 rfl) rfl
theorem q670 : (Jvm.Cond.code ({ cls := "QuotedRiver$Reader", name := "asks", desc := "(Ljava/lang/String;)V" } : Jvm.MethodName) prog_7_method_7_code (2 : Nat) (Option.none : Option Jvm.ClassFile.FieldType)) ∈ lw_all := lw_g (lw_at lw_m3 98 rfl) rfl
theorem q671 : (Jvm.Cond.methodLink "QuotedRiver$Reader" (75 : Nat) ({ cls := "QuotedRiver$Reader", name := "takes", desc := "(Ljava/lang/String;)Z" } : Jvm.MethodName)) ∈ lw_all := lw_g (lw_at lw_m3 99 rfl) rfl
theorem q672 : (Jvm.Cond.privateMethod ({ cls := "QuotedRiver$Reader", name := "takes", desc := "(Ljava/lang/String;)Z" } : Jvm.MethodName)) ∈ lw_tbl := lw_at lw_m3 100 rfl
theorem q673 : (Jvm.Cond.instanceMethod ({ cls := "QuotedRiver$Reader", name := "takes", desc := "(Ljava/lang/String;)Z" } : Jvm.MethodName)) ∈ lw_all := lw_g (lw_at lw_m3 101 rfl) rfl
theorem q674 : (Jvm.Cond.code ({ cls := "QuotedRiver$Reader", name := "takes", desc := "(Ljava/lang/String;)Z" } : Jvm.MethodName) prog_7_method_6_code (3 : Nat) (Option.some Jvm.ClassFile.FieldType.boolean)) ∈ lw_all := lw_g (lw_at lw_m3 102 rfl) rfl
theorem q675 : (Jvm.Cond.methodLink "QuotedRiver$Reader" (71 : Nat) ({ cls := "QuotedRiver$Reader", name := "is", desc := "(Ljava/lang/String;)Z" } : Jvm.MethodName)) ∈ lw_all := lw_g (lw_at lw_m3 103 rfl) rfl
theorem q676 : (Jvm.Cond.privateMethod ({ cls := "QuotedRiver$Reader", name := "is", desc := "(Ljava/lang/String;)Z" } : Jvm.MethodName)) ∈ lw_tbl := lw_at lw_m3 104 rfl
theorem q677 : (Jvm.Cond.instanceMethod ({ cls := "QuotedRiver$Reader", name := "is", desc := "(Ljava/lang/String;)Z" } : Jvm.MethodName)) ∈ lw_all := lw_g (lw_at lw_m3 105 rfl) rfl
theorem q678 : (Jvm.Cond.code ({ cls := "QuotedRiver$Reader", name := "is", desc := "(Ljava/lang/String;)Z" } : Jvm.MethodName) prog_7_method_5_code (3 : Nat) (Option.some Jvm.ClassFile.FieldType.boolean)) ∈ lw_all := lw_g (lw_at lw_m3 106 rfl) rfl
theorem q679 : (Jvm.Cond.methodLink "QuotedRiver$Reader" (61 : Nat) ({ cls := "java/lang/String", name := "length", desc := "()I" } : Jvm.MethodName)) ∈ lw_all := lw_g (lw_at lw_m3 107 rfl) rfl
theorem q689 : (Jvm.Cond.methodLink "QuotedRiver$Reader" (67 : Nat) ({ cls := "java/lang/String", name := "charAt", desc := "(I)C" } : Jvm.MethodName)) ∈ lw_all := lw_g (lw_at lw_m3 117 rfl) rfl
theorem q727 : (Jvm.Cond.methodLink "QuotedRiver$Reader" (78 : Nat) ({ cls := "QuotedRiver$Reader", name := "fault", desc := "(I)LQuotedRiver$Fault;" } : Jvm.MethodName)) ∈ lw_all := lw_g (lw_at lw_m3 155 rfl) rfl
theorem q728 : (Jvm.Cond.privateMethod ({ cls := "QuotedRiver$Reader", name := "fault", desc := "(I)LQuotedRiver$Fault;" } : Jvm.MethodName)) ∈ lw_tbl := lw_at lw_m3 156 rfl
theorem q729 : (Jvm.Cond.instanceMethod ({ cls := "QuotedRiver$Reader", name := "fault", desc := "(I)LQuotedRiver$Fault;" } : Jvm.MethodName)) ∈ lw_all := lw_g (lw_at lw_m3 157 rfl) rfl
theorem q730 : (Jvm.Cond.code ({ cls := "QuotedRiver$Reader", name := "fault", desc := "(I)LQuotedRiver$Fault;" } : Jvm.MethodName) prog_7_method_4_code (2 : Nat) (Option.some (Jvm.ClassFile.FieldType.object "QuotedRiver$Fault"))) ∈ lw_all := lw_g (lw_at lw_m3 158 rfl) rfl
theorem q731 : (Jvm.Cond.classLink "QuotedRiver$Reader" (56 : Nat) "QuotedRiver$Fault") ∈ lw_all := lw_g (lw_at lw_m3 159 rfl) rfl
theorem q740 : (Jvm.Cond.methodLink "QuotedRiver$Reader" (58 : Nat) ({ cls := "QuotedRiver$Fault", name := "<init>", desc := "(II)V" } : Jvm.MethodName)) ∈ lw_all := lw_g (lw_at lw_m3 168 rfl) rfl
theorem q762 : (Jvm.Cond.stringRef "QuotedRiver$Reader" (163 : Nat) "level") ∈ lw_tbl := lw_at lw_m3 190 rfl
theorem q763 : (Jvm.Cond.methodLink "QuotedRiver$Reader" (108 : Nat) ({ cls := "QuotedRiver$Reader", name := "number", desc := "(Ljava/lang/String;II)I" } : Jvm.MethodName)) ∈ lw_all := lw_g (lw_at lw_m3 191 rfl) rfl
theorem q764 : (Jvm.Cond.privateMethod ({ cls := "QuotedRiver$Reader", name := "number", desc := "(Ljava/lang/String;II)I" } : Jvm.MethodName)) ∈ lw_tbl := lw_at lw_m3 192 rfl
theorem q765 : (Jvm.Cond.instanceMethod ({ cls := "QuotedRiver$Reader", name := "number", desc := "(Ljava/lang/String;II)I" } : Jvm.MethodName)) ∈ lw_all := lw_g (lw_at lw_m3 193 rfl) rfl
theorem q766 : (Jvm.Cond.code ({ cls := "QuotedRiver$Reader", name := "number", desc := "(Ljava/lang/String;II)I" } : Jvm.MethodName) prog_7_method_9_code (4 : Nat) (Option.some Jvm.ClassFile.FieldType.int)) ∈ lw_all := lw_g (lw_at lw_m3 194 rfl) rfl
theorem q767 : (Jvm.Cond.methodLink "QuotedRiver$Reader" (86 : Nat) ({ cls := "QuotedRiver$Reader", name := "number", desc := "(II)I" } : Jvm.MethodName)) ∈ lw_all := lw_g (lw_at lw_m3 195 rfl) rfl
theorem q768 : (Jvm.Cond.privateMethod ({ cls := "QuotedRiver$Reader", name := "number", desc := "(II)I" } : Jvm.MethodName)) ∈ lw_tbl := lw_at lw_m3 196 rfl
theorem q769 : (Jvm.Cond.instanceMethod ({ cls := "QuotedRiver$Reader", name := "number", desc := "(II)I" } : Jvm.MethodName)) ∈ lw_all := lw_g (lw_at lw_m3 197 rfl) rfl
theorem q770 : (Jvm.Cond.code ({ cls := "QuotedRiver$Reader", name := "number", desc := "(II)I" } : Jvm.MethodName) prog_7_method_8_code (4 : Nat) (Option.some Jvm.ClassFile.FieldType.int)) ∈ lw_all := lw_g (lw_at lw_m3 198 rfl) rfl
theorem q771 : (Jvm.Cond.stringRef "QuotedRiver$Reader" (167 : Nat) "odds") ∈ lw_tbl := lw_at lw_m3 199 rfl
theorem q772 : (Jvm.Cond.stringRef "QuotedRiver$Reader" (171 : Nat) "swell") ∈ lw_tbl := lw_at lw_m3 200 rfl
theorem q773 : (Jvm.Cond.methodLink "QuotedRiver$Reader" (181 : Nat) ({ cls := "QuotedRiver$Reader", name := "told", desc := "()V" } : Jvm.MethodName)) ∈ lw_all := lw_g (lw_at lw_m3 201 rfl) rfl
theorem q774 : (Jvm.Cond.privateMethod ({ cls := "QuotedRiver$Reader", name := "told", desc := "()V" } : Jvm.MethodName)) ∈ lw_tbl := lw_at lw_m3 202 rfl
theorem q775 : (Jvm.Cond.instanceMethod ({ cls := "QuotedRiver$Reader", name := "told", desc := "()V" } : Jvm.MethodName)) ∈ lw_all := lw_g (lw_at lw_m3 203 rfl) rfl
theorem q776 : (Jvm.Cond.code ({ cls := "QuotedRiver$Reader", name := "told", desc := "()V" } : Jvm.MethodName) prog_7_method_14_code (2 : Nat) (Option.none : Option Jvm.ClassFile.FieldType)) ∈ lw_all := lw_g (lw_at lw_m3 204 rfl) rfl
theorem q777 : (Jvm.Cond.stringRef "QuotedRiver$Reader" (140 : Nat) "reach") ∈ lw_tbl := lw_at lw_m3 205 rfl
theorem q778 : (Jvm.Cond.methodLink "QuotedRiver$Reader" (141 : Nat) ({ cls := "QuotedRiver$Reader", name := "line", desc := "(Ljava/lang/String;Ljava/util/List;I)Z" } : Jvm.MethodName)) ∈ lw_all := lw_g (lw_at lw_m3 206 rfl) rfl
theorem q779 : (Jvm.Cond.privateMethod ({ cls := "QuotedRiver$Reader", name := "line", desc := "(Ljava/lang/String;Ljava/util/List;I)Z" } : Jvm.MethodName)) ∈ lw_tbl := lw_at lw_m3 207 rfl
theorem q780 : (Jvm.Cond.instanceMethod ({ cls := "QuotedRiver$Reader", name := "line", desc := "(Ljava/lang/String;Ljava/util/List;I)Z" } : Jvm.MethodName)) ∈ lw_all := lw_g (lw_at lw_m3 208 rfl) rfl
theorem q781 : (Jvm.Cond.code ({ cls := "QuotedRiver$Reader", name := "line", desc := "(Ljava/lang/String;Ljava/util/List;I)Z" } : Jvm.MethodName) prog_7_method_10_code (4 : Nat) (Option.some Jvm.ClassFile.FieldType.boolean)) ∈ lw_all := lw_g (lw_at lw_m3 209 rfl) rfl
theorem q782 : (Jvm.Cond.interfaceEntry "QuotedRiver$Reader" (89 : Nat)) ∈ lw_tbl := lw_at lw_m3 210 rfl
theorem q783 : (Jvm.Cond.methodLink "QuotedRiver$Reader" (89 : Nat) ({ cls := "java/util/List", name := "size", desc := "()I" } : Jvm.MethodName)) ∈ lw_all := lw_g (lw_at lw_m3 211 rfl) rfl
theorem q792 : (Jvm.Cond.methodLink "QuotedRiver$Reader" (145 : Nat) ({ cls := "QuotedRiver$Reader", name := "reachLine", desc := "()V" } : Jvm.MethodName)) ∈ lw_all := lw_g (lw_at lw_m3 220 rfl) rfl
theorem q793 : (Jvm.Cond.privateMethod ({ cls := "QuotedRiver$Reader", name := "reachLine", desc := "()V" } : Jvm.MethodName)) ∈ lw_tbl := lw_at lw_m3 221 rfl
theorem q794 : (Jvm.Cond.instanceMethod ({ cls := "QuotedRiver$Reader", name := "reachLine", desc := "()V" } : Jvm.MethodName)) ∈ lw_all := lw_g (lw_at lw_m3 222 rfl) rfl
theorem q795 : (Jvm.Cond.code ({ cls := "QuotedRiver$Reader", name := "reachLine", desc := "()V" } : Jvm.MethodName) prog_7_method_12_code (2 : Nat) (Option.none : Option Jvm.ClassFile.FieldType)) ∈ lw_all := lw_g (lw_at lw_m3 223 rfl) rfl
theorem q796 : (Jvm.Cond.classLink "QuotedRiver$Reader" (98 : Nat) "QuotedRiver$Reach") ∈ lw_all := lw_g (lw_at lw_m3 224 rfl) rfl
theorem q798 : (Jvm.Cond.methodLinkNest "QuotedRiver$Reader" (100 : Nat) ({ cls := "QuotedRiver$Reach", name := "<init>", desc := "()V" } : Jvm.MethodName) "QuotedRiver") ∈ lw_tbl := lw_at lw_m3 226 rfl
theorem q804 : (Jvm.Cond.fieldLinkNest "QuotedRiver$Reader" (105 : Nat) "QuotedRiver$Reach" "to" "I" "QuotedRiver") ∈ lw_tbl := lw_at lw_m3 232 rfl
theorem q808 : (Jvm.Cond.fieldLinkNest "QuotedRiver$Reader" (111 : Nat) "QuotedRiver$Reach" "takes" "I" "QuotedRiver") ∈ lw_tbl := lw_at lw_m3 236 rfl
theorem q812 : (Jvm.Cond.fieldLinkNest "QuotedRiver$Reader" (115 : Nat) "QuotedRiver$Reach" "low" "I" "QuotedRiver") ∈ lw_tbl := lw_at lw_m4 0 rfl
theorem q821 : (Jvm.Cond.stringRef "QuotedRiver$Reader" (101 : Nat) "to") ∈ lw_tbl := lw_at lw_m4 9 rfl
theorem q822 : (Jvm.Cond.stringRef "QuotedRiver$Reader" (103 : Nat) "sea") ∈ lw_tbl := lw_at lw_m4 10 rfl
theorem q823 : (Jvm.Cond.stringRef "QuotedRiver$Reader" (107 : Nat) "takes") ∈ lw_tbl := lw_at lw_m4 11 rfl
theorem q824 : (Jvm.Cond.stringRef "QuotedRiver$Reader" (113 : Nat) "low") ∈ lw_tbl := lw_at lw_m4 12 rfl
theorem q825 : (Jvm.Cond.interfaceEntry "QuotedRiver$Reader" (117 : Nat)) ∈ lw_tbl := lw_at lw_m4 13 rfl
theorem q826 : (Jvm.Cond.methodLink "QuotedRiver$Reader" (117 : Nat) ({ cls := "java/util/List", name := "add", desc := "(Ljava/lang/Object;)Z" } : Jvm.MethodName)) ∈ lw_all := lw_g (lw_at lw_m4 14 rfl) rfl
theorem q868 : (Jvm.Cond.selects "QuotedRiver$Reader" ({ cls := "java/lang/Object", name := "getClass", desc := "()Ljava/lang/Class;" } : Jvm.MethodName) ({ cls := "java/lang/Object", name := "getClass", desc := "()Ljava/lang/Class;" } : Jvm.MethodName)) ∈ lw_all := lw_g (lw_at lw_m4 56 rfl) rfl
theorem q890 : (Jvm.Cond.stringRef "QuotedRiver$Reader" (148 : Nat) "join") ∈ lw_tbl := lw_at lw_m4 78 rfl
theorem q891 : (Jvm.Cond.methodLink "QuotedRiver$Reader" (150 : Nat) ({ cls := "QuotedRiver$Reader", name := "joinLine", desc := "()V" } : Jvm.MethodName)) ∈ lw_all := lw_g (lw_at lw_m4 79 rfl) rfl
theorem q892 : (Jvm.Cond.privateMethod ({ cls := "QuotedRiver$Reader", name := "joinLine", desc := "()V" } : Jvm.MethodName)) ∈ lw_tbl := lw_at lw_m4 80 rfl
theorem q893 : (Jvm.Cond.instanceMethod ({ cls := "QuotedRiver$Reader", name := "joinLine", desc := "()V" } : Jvm.MethodName)) ∈ lw_all := lw_g (lw_at lw_m4 81 rfl) rfl
theorem q894 : (Jvm.Cond.code ({ cls := "QuotedRiver$Reader", name := "joinLine", desc := "()V" } : Jvm.MethodName) prog_7_method_13_code (2 : Nat) (Option.none : Option Jvm.ClassFile.FieldType)) ∈ lw_all := lw_g (lw_at lw_m4 82 rfl) rfl
theorem q895 : (Jvm.Cond.classLink "QuotedRiver$Reader" (121 : Nat) "QuotedRiver$Join") ∈ lw_all := lw_g (lw_at lw_m4 83 rfl) rfl
theorem q897 : (Jvm.Cond.methodLinkNest "QuotedRiver$Reader" (123 : Nat) ({ cls := "QuotedRiver$Join", name := "<init>", desc := "()V" } : Jvm.MethodName) "QuotedRiver") ∈ lw_tbl := lw_at lw_m4 85 rfl
theorem q902 : (Jvm.Cond.fieldLinkNest "QuotedRiver$Reader" (127 : Nat) "QuotedRiver$Join" "from" "I" "QuotedRiver") ∈ lw_tbl := lw_at lw_m4 90 rfl
theorem q905 : (Jvm.Cond.fieldLinkNest "QuotedRiver$Reader" (130 : Nat) "QuotedRiver$Join" "to" "I" "QuotedRiver") ∈ lw_tbl := lw_at lw_m4 93 rfl
theorem q908 : (Jvm.Cond.fieldLinkNest "QuotedRiver$Reader" (133 : Nat) "QuotedRiver$Join" "each" "I" "QuotedRiver") ∈ lw_tbl := lw_at lw_m4 96 rfl
theorem q911 : (Jvm.Cond.fieldLinkNest "QuotedRiver$Reader" (136 : Nat) "QuotedRiver$Join" "at" "I" "QuotedRiver") ∈ lw_tbl := lw_at lw_m4 99 rfl
theorem q922 : (Jvm.Cond.methodLink "QuotedRiver$Reader" (124 : Nat) ({ cls := "QuotedRiver$Reader", name := "reach", desc := "()I" } : Jvm.MethodName)) ∈ lw_all := lw_g (lw_at lw_m4 110 rfl) rfl
theorem q923 : (Jvm.Cond.privateMethod ({ cls := "QuotedRiver$Reader", name := "reach", desc := "()I" } : Jvm.MethodName)) ∈ lw_tbl := lw_at lw_m4 111 rfl
theorem q924 : (Jvm.Cond.instanceMethod ({ cls := "QuotedRiver$Reader", name := "reach", desc := "()I" } : Jvm.MethodName)) ∈ lw_all := lw_g (lw_at lw_m4 112 rfl) rfl
theorem q925 : (Jvm.Cond.code ({ cls := "QuotedRiver$Reader", name := "reach", desc := "()I" } : Jvm.MethodName) prog_7_method_11_code (1 : Nat) (Option.some Jvm.ClassFile.FieldType.int)) ∈ lw_all := lw_g (lw_at lw_m4 113 rfl) rfl
theorem q926 : (Jvm.Cond.stringRef "QuotedRiver$Reader" (131 : Nat) "each") ∈ lw_tbl := lw_at lw_m4 114 rfl
theorem q927 : (Jvm.Cond.stringRef "QuotedRiver$Reader" (135 : Nat) "at") ∈ lw_tbl := lw_at lw_m4 115 rfl
theorem q928 : (Jvm.Cond.stringRef "QuotedRiver$Reader" (153 : Nat) "rain") ∈ lw_tbl := lw_at lw_m4 116 rfl
theorem q929 : (Jvm.Cond.classLink "QuotedRiver$Reader" (158 : Nat) "QuotedRiver$Rain") ∈ lw_all := lw_g (lw_at lw_m4 117 rfl) rfl
theorem q931 : (Jvm.Cond.methodLink "QuotedRiver$Reader" (160 : Nat) ({ cls := "QuotedRiver$Rain", name := "<init>", desc := "(II)V" } : Jvm.MethodName)) ∈ lw_all := lw_g (lw_at lw_m4 119 rfl) rfl
theorem q946 : (Jvm.Cond.interfaceEntry "QuotedRiver$Reader" (184 : Nat)) ∈ lw_tbl := lw_at lw_m4 134 rfl
theorem q947 : (Jvm.Cond.methodLink "QuotedRiver$Reader" (184 : Nat) ({ cls := "java/util/List", name := "iterator", desc := "()Ljava/util/Iterator;" } : Jvm.MethodName)) ∈ lw_all := lw_g (lw_at lw_m4 135 rfl) rfl
theorem q974 : (Jvm.Cond.interfaceEntry "QuotedRiver$Reader" (188 : Nat)) ∈ lw_tbl := lw_at lw_m4 162 rfl
theorem q975 : (Jvm.Cond.methodLink "QuotedRiver$Reader" (188 : Nat) ({ cls := "java/util/Iterator", name := "hasNext", desc := "()Z" } : Jvm.MethodName)) ∈ lw_all := lw_g (lw_at lw_m4 163 rfl) rfl
theorem q984 : (Jvm.Cond.interfaceEntry "QuotedRiver$Reader" (194 : Nat)) ∈ lw_tbl := lw_at lw_m4 172 rfl
theorem q985 : (Jvm.Cond.methodLink "QuotedRiver$Reader" (194 : Nat) ({ cls := "java/util/Iterator", name := "next", desc := "()Ljava/lang/Object;" } : Jvm.MethodName)) ∈ lw_all := lw_g (lw_at lw_m4 173 rfl) rfl
theorem q2322 : (Jvm.Cond.castable "QuotedRiver$Reader" "java/lang/Object") ∈ lw_tbl := lw_at lw_m10 70 rfl
theorem in_X7 : ∀ w ∈ wsX70, w ∈ lw_all := lw_in wsX70 [643, 645, 647, 649, 651, 653, 655] (by decide +kernel) (by decide +kernel)
theorem q112 : (Jvm.Cond.initialized "QuotedRiver$Fault") ∈ lw_all := lw_g (lw_at lw_m1 20 rfl) rfl
theorem q166 : (Jvm.Cond.selects "QuotedRiver$Fault" ({ cls := "java/lang/Throwable", name := "fillInStackTrace", desc := "()Ljava/lang/Throwable;" } : Jvm.MethodName) ({ cls := "java/lang/Throwable", name := "fillInStackTrace", desc := "()Ljava/lang/Throwable;" } : Jvm.MethodName)) ∈ lw_all := lw_g (lw_at lw_m1 74 rfl) rfl
theorem q732 : (Jvm.Cond.instantiable "QuotedRiver$Fault" (8 : Nat)) ∈ lw_all := lw_g (lw_at lw_m3 160 rfl) rfl
theorem q733 : (Jvm.Cond.castable "QuotedRiver$Fault" "QuotedRiver$Fault") ∈ lw_tbl := lw_at lw_m3 161 rfl
theorem q734 : (Jvm.Cond.selects "QuotedRiver$Fault" ({ cls := "java/lang/Throwable", name := "fillInStackTrace", desc := "(I)Ljava/lang/Throwable;" } : Jvm.MethodName) ({ cls := "java/lang/Throwable", name := "fillInStackTrace", desc := "(I)Ljava/lang/Throwable;" } : Jvm.MethodName)) ∈ lw_all := lw_g (lw_at lw_m3 162 rfl) rfl
theorem q735 : (Jvm.Cond.lays "QuotedRiver$Fault" "java/lang/Throwable" "cause" "Ljava/lang/Throwable;") ∈ lw_all := lw_g (lw_at lw_m3 163 rfl) rfl
theorem q736 : (Jvm.Cond.lays "QuotedRiver$Fault" "java/lang/Throwable" "stackTrace" "[Ljava/lang/StackTraceElement;") ∈ lw_all := lw_g (lw_at lw_m3 164 rfl) rfl
theorem q737 : (Jvm.Cond.lays "QuotedRiver$Fault" "java/lang/Throwable" "suppressedExceptions" "Ljava/util/List;") ∈ lw_all := lw_g (lw_at lw_m3 165 rfl) rfl
theorem q738 : (Jvm.Cond.lays "QuotedRiver$Fault" "java/lang/Throwable" "detailMessage" "Ljava/lang/String;") ∈ lw_all := lw_g (lw_at lw_m3 166 rfl) rfl
theorem q739 : (Jvm.Cond.lays "QuotedRiver$Fault" "java/lang/Throwable" "backtrace" "Ljava/lang/Object;") ∈ lw_all := lw_g (lw_at lw_m3 167 rfl) rfl
theorem q741 : (Jvm.Cond.instanceMethod ({ cls := "QuotedRiver$Fault", name := "<init>", desc := "(II)V" } : Jvm.MethodName)) ∈ lw_all := lw_g (lw_at lw_m3 169 rfl) rfl
theorem q742 : (Jvm.Cond.code ({ cls := "QuotedRiver$Fault", name := "<init>", desc := "(II)V" } : Jvm.MethodName) prog_3_method_1_code (3 : Nat) (Option.none : Option Jvm.ClassFile.FieldType)) ∈ lw_all := lw_g (lw_at lw_m3 170 rfl) rfl
theorem q743 : (Jvm.Cond.methodLink "QuotedRiver$Fault" (1 : Nat) ({ cls := "java/lang/RuntimeException", name := "<init>", desc := "(Ljava/lang/String;Ljava/lang/Throwable;ZZ)V" } : Jvm.MethodName)) ∈ lw_all := lw_g (lw_at lw_m3 171 rfl) rfl
theorem q752 : (Jvm.Cond.fieldLink "QuotedRiver$Fault" (7 : Nat) "QuotedRiver$Fault" "kind" "I") ∈ lw_all := lw_g (lw_at lw_m3 180 rfl) rfl
theorem q754 : (Jvm.Cond.fieldLink "QuotedRiver$Fault" (13 : Nat) "QuotedRiver$Fault" "place" "I") ∈ lw_all := lw_g (lw_at lw_m3 182 rfl) rfl
theorem q756 : (Jvm.Cond.laysFinal "QuotedRiver$Fault" "QuotedRiver$Fault" "kind" "I") ∈ lw_all := lw_g (lw_at lw_m3 184 rfl) rfl
theorem q757 : (Jvm.Cond.soleField "QuotedRiver$Fault" "kind") ∈ lw_all := lw_g (lw_at lw_m3 185 rfl) rfl
theorem q758 : (Jvm.Cond.laysFinal "QuotedRiver$Fault" "QuotedRiver$Fault" "place" "I") ∈ lw_all := lw_g (lw_at lw_m3 186 rfl) rfl
theorem q759 : (Jvm.Cond.soleField "QuotedRiver$Fault" "place") ∈ lw_all := lw_g (lw_at lw_m3 187 rfl) rfl
theorem q760 : (Jvm.Cond.lays "QuotedRiver$Fault" "java/lang/Throwable" "depth" "I") ∈ lw_all := lw_g (lw_at lw_m3 188 rfl) rfl
theorem q761 : (Jvm.Cond.superclass "QuotedRiver$Fault" "java/lang/RuntimeException") ∈ lw_all := lw_g (lw_at lw_m3 189 rfl) rfl
theorem q864 : (Jvm.Cond.selects "QuotedRiver$Fault" ({ cls := "java/lang/Object", name := "getClass", desc := "()Ljava/lang/Class;" } : Jvm.MethodName) ({ cls := "java/lang/Object", name := "getClass", desc := "()Ljava/lang/Class;" } : Jvm.MethodName)) ∈ lw_all := lw_g (lw_at lw_m4 52 rfl) rfl
theorem q2323 : (Jvm.Cond.castable "QuotedRiver$Fault" "java/lang/Object") ∈ lw_tbl := lw_at lw_m10 71 rfl
theorem in_X8 : ∀ w ∈ wsX80, w ∈ lw_all := lw_in wsX80 [735, 736, 737, 738, 739, 760, 756, 758] (by decide +kernel) (by decide +kernel)
theorem q113 : (Jvm.Cond.initialized "QuotedRiver$Reach") ∈ lw_all := lw_g (lw_at lw_m1 21 rfl) rfl
theorem q797 : (Jvm.Cond.instantiable "QuotedRiver$Reach" (3 : Nat)) ∈ lw_all := lw_g (lw_at lw_m3 225 rfl) rfl
theorem q799 : (Jvm.Cond.instanceMethod ({ cls := "QuotedRiver$Reach", name := "<init>", desc := "()V" } : Jvm.MethodName)) ∈ lw_all := lw_g (lw_at lw_m3 227 rfl) rfl
theorem q800 : (Jvm.Cond.code ({ cls := "QuotedRiver$Reach", name := "<init>", desc := "()V" } : Jvm.MethodName) prog_6_method_1_code (1 : Nat) (Option.none : Option Jvm.ClassFile.FieldType)) ∈ lw_all := lw_g (lw_at lw_m3 228 rfl) rfl
theorem q801 : (Jvm.Cond.methodLink "QuotedRiver$Reach" (1 : Nat) ({ cls := "java/lang/Object", name := "<init>", desc := "()V" } : Jvm.MethodName)) ∈ lw_all := lw_g (lw_at lw_m3 229 rfl) rfl
theorem q802 : (Jvm.Cond.fieldLink "QuotedRiver$Reach" (10 : Nat) "QuotedRiver$Reach" "to" "I") ∈ lw_all := lw_g (lw_at lw_m3 230 rfl) rfl
theorem q806 : (Jvm.Cond.fieldLink "QuotedRiver$Reach" (14 : Nat) "QuotedRiver$Reach" "takes" "I") ∈ lw_all := lw_g (lw_at lw_m3 234 rfl) rfl
theorem q810 : (Jvm.Cond.fieldLink "QuotedRiver$Reach" (17 : Nat) "QuotedRiver$Reach" "low" "I") ∈ lw_all := lw_g (lw_at lw_m3 238 rfl) rfl
theorem q814 : (Jvm.Cond.lays "QuotedRiver$Reach" "QuotedRiver$Reach" "to" "I") ∈ lw_all := lw_g (lw_at lw_m4 2 rfl) rfl
theorem q815 : (Jvm.Cond.soleField "QuotedRiver$Reach" "to") ∈ lw_all := lw_g (lw_at lw_m4 3 rfl) rfl
theorem q816 : (Jvm.Cond.lays "QuotedRiver$Reach" "QuotedRiver$Reach" "takes" "I") ∈ lw_all := lw_g (lw_at lw_m4 4 rfl) rfl
theorem q817 : (Jvm.Cond.soleField "QuotedRiver$Reach" "takes") ∈ lw_all := lw_g (lw_at lw_m4 5 rfl) rfl
theorem q818 : (Jvm.Cond.lays "QuotedRiver$Reach" "QuotedRiver$Reach" "low" "I") ∈ lw_all := lw_g (lw_at lw_m4 6 rfl) rfl
theorem q819 : (Jvm.Cond.soleField "QuotedRiver$Reach" "low") ∈ lw_all := lw_g (lw_at lw_m4 7 rfl) rfl
theorem q820 : (Jvm.Cond.superclass "QuotedRiver$Reach" "java/lang/Object") ∈ lw_all := lw_g (lw_at lw_m4 8 rfl) rfl
theorem q867 : (Jvm.Cond.selects "QuotedRiver$Reach" ({ cls := "java/lang/Object", name := "getClass", desc := "()Ljava/lang/Class;" } : Jvm.MethodName) ({ cls := "java/lang/Object", name := "getClass", desc := "()Ljava/lang/Class;" } : Jvm.MethodName)) ∈ lw_all := lw_g (lw_at lw_m4 55 rfl) rfl
theorem q1591 : (Jvm.Cond.instanceMethod ({ cls := "QuotedRiver$Reach", name := "same", desc := "()LQuotedRiver$Reach;" } : Jvm.MethodName)) ∈ lw_all := lw_g (lw_at lw_m7 59 rfl) rfl
theorem q1592 : (Jvm.Cond.selects "QuotedRiver$Reach" ({ cls := "QuotedRiver$Reach", name := "same", desc := "()LQuotedRiver$Reach;" } : Jvm.MethodName) ({ cls := "QuotedRiver$Reach", name := "same", desc := "()LQuotedRiver$Reach;" } : Jvm.MethodName)) ∈ lw_all := lw_g (lw_at lw_m7 60 rfl) rfl
theorem q1593 : (Jvm.Cond.code ({ cls := "QuotedRiver$Reach", name := "same", desc := "()LQuotedRiver$Reach;" } : Jvm.MethodName) prog_6_method_2_code (2 : Nat) (Option.some (Jvm.ClassFile.FieldType.object "QuotedRiver$Reach"))) ∈ lw_all := lw_g (lw_at lw_m7 61 rfl) rfl
theorem q1594 : (Jvm.Cond.classLink "QuotedRiver$Reach" (7 : Nat) "QuotedRiver$Reach") ∈ lw_all := lw_g (lw_at lw_m7 62 rfl) rfl
theorem q1595 : (Jvm.Cond.methodLink "QuotedRiver$Reach" (9 : Nat) ({ cls := "QuotedRiver$Reach", name := "<init>", desc := "()V" } : Jvm.MethodName)) ∈ lw_all := lw_g (lw_at lw_m7 63 rfl) rfl
theorem q2324 : (Jvm.Cond.castable "QuotedRiver$Reach" "java/lang/Object") ∈ lw_tbl := lw_at lw_m10 72 rfl
theorem in_X9 : ∀ w ∈ wsX90, w ∈ lw_all := lw_in wsX90 [814, 816, 818] (by decide +kernel) (by decide +kernel)
theorem q92 : (Jvm.Cond.initialized "QuotedRiverLaw") ∈ lw_all := lw_g (lw_at lw_m1 0 rfl) rfl
theorem q128 : (Jvm.Cond.methodLink "QuotedRiverLaw" (312 : Nat) ({ cls := "QuotedRiver", name := "row", desc := "(III)I" } : Jvm.MethodName)) ∈ lw_all := lw_g (lw_at lw_m1 36 rfl) rfl
theorem q234 : (Jvm.Cond.methodLink "QuotedRiverLaw" (318 : Nat) ({ cls := "QuotedRiver", name := "write", desc := "(IIJ)I" } : Jvm.MethodName)) ∈ lw_all := lw_g (lw_at lw_m1 142 rfl) rfl
theorem q313 : (Jvm.Cond.methodLink "QuotedRiverLaw" (323 : Nat) ({ cls := "QuotedRiver", name := "paste", desc := "(IIIII)I" } : Jvm.MethodName)) ∈ lw_all := lw_g (lw_at lw_m1 221 rfl) rfl
theorem q329 : (Jvm.Cond.classLink "QuotedRiverLaw" (7 : Nat) "QuotedRiver") ∈ lw_all := lw_g (lw_at lw_m1 237 rfl) rfl
theorem q331 : (Jvm.Cond.methodLink "QuotedRiverLaw" (9 : Nat) ({ cls := "QuotedRiver", name := "<init>", desc := "()V" } : Jvm.MethodName)) ∈ lw_all := lw_g (lw_at lw_m1 239 rfl) rfl
theorem q602 : (Jvm.Cond.methodLink "QuotedRiverLaw" (13 : Nat) ({ cls := "QuotedRiver", name := "feed", desc := "(IIIII)I" } : Jvm.MethodName)) ∈ lw_all := lw_g (lw_at lw_m3 30 rfl) rfl
theorem q606 : (Jvm.Cond.methodLink "QuotedRiverLaw" (18 : Nat) ({ cls := "QuotedRiver", name := "end", desc := "(I)I" } : Jvm.MethodName)) ∈ lw_all := lw_g (lw_at lw_m3 34 rfl) rfl
theorem q610 : (Jvm.Cond.methodLink "QuotedRiverLaw" (23 : Nat) ({ cls := "QuotedRiver", name := "rivers", desc := "()I" } : Jvm.MethodName)) ∈ lw_all := lw_g (lw_at lw_m3 38 rfl) rfl
theorem q1001 : (Jvm.Cond.methodLink "QuotedRiverLaw" (28 : Nat) ({ cls := "QuotedRiver", name := "fault", desc := "(I)I" } : Jvm.MethodName)) ∈ lw_all := lw_g (lw_at lw_m4 189 rfl) rfl
theorem q1005 : (Jvm.Cond.methodLink "QuotedRiverLaw" (32 : Nat) ({ cls := "QuotedRiver", name := "reach", desc := "(II)I" } : Jvm.MethodName)) ∈ lw_all := lw_g (lw_at lw_m4 193 rfl) rfl
theorem q1042 : (Jvm.Cond.methodLink "QuotedRiverLaw" (37 : Nat) ({ cls := "QuotedRiver", name := "join", desc := "(II)I" } : Jvm.MethodName)) ∈ lw_all := lw_g (lw_at lw_m4 230 rfl) rfl
theorem q1055 : (Jvm.Cond.methodLink "QuotedRiverLaw" (106 : Nat) ({ cls := "QuotedRiver", name := "idle", desc := "(I)I" } : Jvm.MethodName)) ∈ lw_all := lw_g (lw_at lw_m5 3 rfl) rfl
theorem q1086 : (Jvm.Cond.methodLink "QuotedRiverLaw" (110 : Nat) ({ cls := "QuotedRiver", name := "alike", desc := "(II)I" } : Jvm.MethodName)) ∈ lw_all := lw_g (lw_at lw_m5 34 rfl) rfl
theorem q1119 : (Jvm.Cond.methodLink "QuotedRiverLaw" (114 : Nat) ({ cls := "QuotedRiver", name := "busy", desc := "(I)I" } : Jvm.MethodName)) ∈ lw_all := lw_g (lw_at lw_m5 67 rfl) rfl
theorem q1145 : (Jvm.Cond.methodLink "QuotedRiverLaw" (118 : Nat) ({ cls := "QuotedRiver", name := "flows", desc := "(I)I" } : Jvm.MethodName)) ∈ lw_all := lw_g (lw_at lw_m5 93 rfl) rfl
theorem q1153 : (Jvm.Cond.methodLink "QuotedRiverLaw" (122 : Nat) ({ cls := "QuotedRiver", name := "mouths", desc := "()I" } : Jvm.MethodName)) ∈ lw_all := lw_g (lw_at lw_m5 101 rfl) rfl
theorem q1157 : (Jvm.Cond.methodLink "QuotedRiverLaw" (126 : Nat) ({ cls := "QuotedRiver", name := "springs", desc := "()I" } : Jvm.MethodName)) ∈ lw_all := lw_g (lw_at lw_m5 105 rfl) rfl
theorem q1161 : (Jvm.Cond.methodLink "QuotedRiverLaw" (130 : Nat) ({ cls := "QuotedRiver", name := "depth", desc := "(I)I" } : Jvm.MethodName)) ∈ lw_all := lw_g (lw_at lw_m5 109 rfl) rfl
theorem q1169 : (Jvm.Cond.methodLink "QuotedRiverLaw" (134 : Nat) ({ cls := "QuotedRiver", name := "rings", desc := "()I" } : Jvm.MethodName)) ∈ lw_all := lw_g (lw_at lw_m5 117 rfl) rfl
theorem q1173 : (Jvm.Cond.methodLink "QuotedRiverLaw" (138 : Nat) ({ cls := "QuotedRiver", name := "rained", desc := "(I)I" } : Jvm.MethodName)) ∈ lw_all := lw_g (lw_at lw_m5 121 rfl) rfl
theorem q1177 : (Jvm.Cond.methodLink "QuotedRiverLaw" (142 : Nat) ({ cls := "QuotedRiver", name := "lowest", desc := "()I" } : Jvm.MethodName)) ∈ lw_all := lw_g (lw_at lw_m5 125 rfl) rfl
theorem q1181 : (Jvm.Cond.methodLink "QuotedRiverLaw" (146 : Nat) ({ cls := "QuotedRiver", name := "deeper", desc := "()I" } : Jvm.MethodName)) ∈ lw_all := lw_g (lw_at lw_m5 129 rfl) rfl
theorem q1187 : (Jvm.Cond.methodLink "QuotedRiverLaw" (150 : Nat) ({ cls := "QuotedRiver", name := "goes", desc := "(II)I" } : Jvm.MethodName)) ∈ lw_all := lw_g (lw_at lw_m5 135 rfl) rfl
theorem q1192 : (Jvm.Cond.methodLink "QuotedRiverLaw" (154 : Nat) ({ cls := "QuotedRiver", name := "used", desc := "(II)I" } : Jvm.MethodName)) ∈ lw_all := lw_g (lw_at lw_m5 140 rfl) rfl
theorem q1196 : (Jvm.Cond.methodLink "QuotedRiverLaw" (158 : Nat) ({ cls := "QuotedRiver", name := "together", desc := "(II)I" } : Jvm.MethodName)) ∈ lw_all := lw_g (lw_at lw_m5 144 rfl) rfl
theorem q1200 : (Jvm.Cond.methodLink "QuotedRiverLaw" (162 : Nat) ({ cls := "QuotedRiver", name := "again", desc := "(II)I" } : Jvm.MethodName)) ∈ lw_all := lw_g (lw_at lw_m5 148 rfl) rfl
theorem q1204 : (Jvm.Cond.methodLink "QuotedRiverLaw" (166 : Nat) ({ cls := "QuotedRiver", name := "can", desc := "(I)I" } : Jvm.MethodName)) ∈ lw_all := lw_g (lw_at lw_m5 152 rfl) rfl
theorem q1212 : (Jvm.Cond.methodLink "QuotedRiverLaw" (170 : Nat) ({ cls := "QuotedRiver", name := "slowly", desc := "(II)I" } : Jvm.MethodName)) ∈ lw_all := lw_g (lw_at lw_m5 160 rfl) rfl
theorem q1221 : (Jvm.Cond.methodLink "QuotedRiverLaw" (174 : Nat) ({ cls := "QuotedRiver", name := "mean", desc := "(II)J" } : Jvm.MethodName)) ∈ lw_all := lw_g (lw_at lw_m5 169 rfl) rfl
theorem q1245 : (Jvm.Cond.methodLink "QuotedRiverLaw" (179 : Nat) ({ cls := "QuotedRiver", name := "answer", desc := "(I)I" } : Jvm.MethodName)) ∈ lw_all := lw_g (lw_at lw_m5 193 rfl) rfl
theorem q1253 : (Jvm.Cond.methodLink "QuotedRiverLaw" (41 : Nat) ({ cls := "QuotedRiver", name := "rain", desc := "(II)I" } : Jvm.MethodName)) ∈ lw_all := lw_g (lw_at lw_m5 201 rfl) rfl
theorem q1258 : (Jvm.Cond.methodLink "QuotedRiverLaw" (45 : Nat) ({ cls := "QuotedRiver", name := "level", desc := "(I)I" } : Jvm.MethodName)) ∈ lw_all := lw_g (lw_at lw_m5 206 rfl) rfl
theorem q1262 : (Jvm.Cond.methodLink "QuotedRiverLaw" (49 : Nat) ({ cls := "QuotedRiver", name := "stands", desc := "(I)I" } : Jvm.MethodName)) ∈ lw_all := lw_g (lw_at lw_m5 210 rfl) rfl
theorem q1263 : (Jvm.Cond.methodLink "QuotedRiverLaw" (53 : Nat) ({ cls := "QuotedRiver", name := "dry", desc := "(I)I" } : Jvm.MethodName)) ∈ lw_all := lw_g (lw_at lw_m5 211 rfl) rfl
theorem q1267 : (Jvm.Cond.methodLink "QuotedRiverLaw" (57 : Nat) ({ cls := "QuotedRiver", name := "drought", desc := "(I)I" } : Jvm.MethodName)) ∈ lw_all := lw_g (lw_at lw_m5 215 rfl) rfl
theorem q1271 : (Jvm.Cond.methodLink "QuotedRiverLaw" (61 : Nat) ({ cls := "QuotedRiver", name := "where", desc := "(III)I" } : Jvm.MethodName)) ∈ lw_all := lw_g (lw_at lw_m5 219 rfl) rfl
theorem q1275 : (Jvm.Cond.methodLink "QuotedRiverLaw" (66 : Nat) ({ cls := "QuotedRiver", name := "sea", desc := "(II)I" } : Jvm.MethodName)) ∈ lw_all := lw_g (lw_at lw_m5 223 rfl) rfl
theorem q1279 : (Jvm.Cond.methodLink "QuotedRiverLaw" (70 : Nat) ({ cls := "QuotedRiver", name := "comes", desc := "(III)I" } : Jvm.MethodName)) ∈ lw_all := lw_g (lw_at lw_m5 227 rfl) rfl
theorem q1283 : (Jvm.Cond.methodLink "QuotedRiverLaw" (74 : Nat) ({ cls := "QuotedRiver", name := "way", desc := "(II)I" } : Jvm.MethodName)) ∈ lw_all := lw_g (lw_at lw_m5 231 rfl) rfl
theorem q1287 : (Jvm.Cond.methodLink "QuotedRiverLaw" (78 : Nat) ({ cls := "QuotedRiver", name := "leaves", desc := "(II)I" } : Jvm.MethodName)) ∈ lw_all := lw_g (lw_at lw_m5 235 rfl) rfl
theorem q1291 : (Jvm.Cond.methodLink "QuotedRiverLaw" (82 : Nat) ({ cls := "QuotedRiver", name := "waits", desc := "(II)I" } : Jvm.MethodName)) ∈ lw_all := lw_g (lw_at lw_m5 239 rfl) rfl
theorem q1295 : (Jvm.Cond.methodLink "QuotedRiverLaw" (86 : Nat) ({ cls := "QuotedRiver", name := "jumps", desc := "(II)I" } : Jvm.MethodName)) ∈ lw_all := lw_g (lw_at lw_m6 3 rfl) rfl
theorem q1299 : (Jvm.Cond.methodLink "QuotedRiverLaw" (90 : Nat) ({ cls := "QuotedRiver", name := "finds", desc := "(II)I" } : Jvm.MethodName)) ∈ lw_all := lw_g (lw_at lw_m6 7 rfl) rfl
theorem q1303 : (Jvm.Cond.methodLink "QuotedRiverLaw" (94 : Nat) ({ cls := "QuotedRiver", name := "from", desc := "(II)I" } : Jvm.MethodName)) ∈ lw_all := lw_g (lw_at lw_m6 11 rfl) rfl
theorem q1304 : (Jvm.Cond.methodLink "QuotedRiverLaw" (98 : Nat) ({ cls := "QuotedRiver", name := "ends", desc := "(I)I" } : Jvm.MethodName)) ∈ lw_all := lw_g (lw_at lw_m6 12 rfl) rfl
theorem q1308 : (Jvm.Cond.methodLink "QuotedRiverLaw" (102 : Nat) ({ cls := "QuotedRiver", name := "meet", desc := "(II)I" } : Jvm.MethodName)) ∈ lw_all := lw_g (lw_at lw_m6 16 rfl) rfl
theorem q1312 : (Jvm.Cond.methodLink "QuotedRiverLaw" (183 : Nat) ({ cls := "QuotedRiver", name := "soon", desc := "(II)I" } : Jvm.MethodName)) ∈ lw_all := lw_g (lw_at lw_m6 20 rfl) rfl
theorem q1316 : (Jvm.Cond.methodLink "QuotedRiverLaw" (187 : Nat) ({ cls := "QuotedRiver", name := "quick", desc := "(II)I" } : Jvm.MethodName)) ∈ lw_all := lw_g (lw_at lw_m6 24 rfl) rfl
theorem q1324 : (Jvm.Cond.methodLink "QuotedRiverLaw" (191 : Nat) ({ cls := "QuotedRiver", name := "quickly", desc := "(II)I" } : Jvm.MethodName)) ∈ lw_all := lw_g (lw_at lw_m6 32 rfl) rfl
theorem q1328 : (Jvm.Cond.methodLink "QuotedRiverLaw" (195 : Nat) ({ cls := "QuotedRiver", name := "late", desc := "(III)I" } : Jvm.MethodName)) ∈ lw_all := lw_g (lw_at lw_m6 36 rfl) rfl
theorem q1332 : (Jvm.Cond.methodLink "QuotedRiverLaw" (199 : Nat) ({ cls := "QuotedRiver", name := "often", desc := "(II)I" } : Jvm.MethodName)) ∈ lw_all := lw_g (lw_at lw_m6 40 rfl) rfl
theorem q1336 : (Jvm.Cond.methodLink "QuotedRiverLaw" (203 : Nat) ({ cls := "QuotedRiver", name := "stop", desc := "(II)I" } : Jvm.MethodName)) ∈ lw_all := lw_g (lw_at lw_m6 44 rfl) rfl
theorem q1348 : (Jvm.Cond.methodLink "QuotedRiverLaw" (207 : Nat) ({ cls := "QuotedRiver", name := "stops", desc := "(II)I" } : Jvm.MethodName)) ∈ lw_all := lw_g (lw_at lw_m6 56 rfl) rfl
theorem q1352 : (Jvm.Cond.methodLink "QuotedRiverLaw" (211 : Nat) ({ cls := "QuotedRiver", name := "shut", desc := "(II)I" } : Jvm.MethodName)) ∈ lw_all := lw_g (lw_at lw_m6 60 rfl) rfl
theorem q1359 : (Jvm.Cond.methodLink "QuotedRiverLaw" (215 : Nat) ({ cls := "QuotedRiver", name := "pour", desc := "(III)I" } : Jvm.MethodName)) ∈ lw_all := lw_g (lw_at lw_m6 67 rfl) rfl
theorem q1364 : (Jvm.Cond.methodLink "QuotedRiverLaw" (219 : Nat) ({ cls := "QuotedRiver", name := "fits", desc := "(I)I" } : Jvm.MethodName)) ∈ lw_all := lw_g (lw_at lw_m6 72 rfl) rfl
theorem q1401 : (Jvm.Cond.methodLink "QuotedRiverLaw" (223 : Nat) ({ cls := "QuotedRiver", name := "sources", desc := "(I)I" } : Jvm.MethodName)) ∈ lw_all := lw_g (lw_at lw_m6 109 rfl) rfl
theorem q1405 : (Jvm.Cond.methodLink "QuotedRiverLaw" (227 : Nat) ({ cls := "QuotedRiver", name := "source", desc := "(I)I" } : Jvm.MethodName)) ∈ lw_all := lw_g (lw_at lw_m6 113 rfl) rfl
theorem q1409 : (Jvm.Cond.methodLink "QuotedRiverLaw" (231 : Nat) ({ cls := "QuotedRiver", name := "ask", desc := "(I)I" } : Jvm.MethodName)) ∈ lw_all := lw_g (lw_at lw_m6 117 rfl) rfl
theorem q1413 : (Jvm.Cond.methodLink "QuotedRiverLaw" (235 : Nat) ({ cls := "QuotedRiver", name := "doubts", desc := "(I)I" } : Jvm.MethodName)) ∈ lw_all := lw_g (lw_at lw_m6 121 rfl) rfl
theorem q1417 : (Jvm.Cond.methodLink "QuotedRiverLaw" (239 : Nat) ({ cls := "QuotedRiver", name := "turn", desc := "(III)I" } : Jvm.MethodName)) ∈ lw_all := lw_g (lw_at lw_m6 125 rfl) rfl
theorem q1430 : (Jvm.Cond.methodLink "QuotedRiverLaw" (243 : Nat) ({ cls := "QuotedRiver", name := "turned", desc := "(III)I" } : Jvm.MethodName)) ∈ lw_all := lw_g (lw_at lw_m6 138 rfl) rfl
theorem q1434 : (Jvm.Cond.methodLink "QuotedRiverLaw" (247 : Nat) ({ cls := "QuotedRiver", name := "rests", desc := "()I" } : Jvm.MethodName)) ∈ lw_all := lw_g (lw_at lw_m6 142 rfl) rfl
theorem q1441 : (Jvm.Cond.methodLink "QuotedRiverLaw" (251 : Nat) ({ cls := "QuotedRiver", name := "rest", desc := "()I" } : Jvm.MethodName)) ∈ lw_all := lw_g (lw_at lw_m6 149 rfl) rfl
theorem q1445 : (Jvm.Cond.methodLink "QuotedRiverLaw" (255 : Nat) ({ cls := "QuotedRiver", name := "has", desc := "(II)I" } : Jvm.MethodName)) ∈ lw_all := lw_g (lw_at lw_m6 153 rfl) rfl
theorem q1449 : (Jvm.Cond.methodLink "QuotedRiverLaw" (259 : Nat) ({ cls := "QuotedRiver", name := "treaty", desc := "()I" } : Jvm.MethodName)) ∈ lw_all := lw_g (lw_at lw_m6 157 rfl) rfl
theorem q1453 : (Jvm.Cond.methodLink "QuotedRiverLaw" (263 : Nat) ({ cls := "QuotedRiver", name := "chance", desc := "(III)J" } : Jvm.MethodName)) ∈ lw_all := lw_g (lw_at lw_m6 161 rfl) rfl
theorem q1462 : (Jvm.Cond.methodLink "QuotedRiverLaw" (268 : Nat) ({ cls := "QuotedRiver", name := "risk", desc := "(II)I" } : Jvm.MethodName)) ∈ lw_all := lw_g (lw_at lw_m6 170 rfl) rfl
theorem q1467 : (Jvm.Cond.methodLink "QuotedRiverLaw" (272 : Nat) ({ cls := "QuotedRiver", name := "close", desc := "(II)I" } : Jvm.MethodName)) ∈ lw_all := lw_g (lw_at lw_m6 175 rfl) rfl
theorem q1496 : (Jvm.Cond.methodLink "QuotedRiverLaw" (276 : Nat) ({ cls := "QuotedRiver", name := "pours", desc := "(II)I" } : Jvm.MethodName)) ∈ lw_all := lw_g (lw_at lw_m6 204 rfl) rfl
theorem q1502 : (Jvm.Cond.methodLink "QuotedRiverLaw" (280 : Nat) ({ cls := "QuotedRiver", name := "undo", desc := "()I" } : Jvm.MethodName)) ∈ lw_all := lw_g (lw_at lw_m6 210 rfl) rfl
theorem q1529 : (Jvm.Cond.methodLink "QuotedRiverLaw" (284 : Nat) ({ cls := "QuotedRiver", name := "anew", desc := "()I" } : Jvm.MethodName)) ∈ lw_all := lw_g (lw_at lw_m6 237 rfl) rfl
theorem q1542 : (Jvm.Cond.methodLink "QuotedRiverLaw" (288 : Nat) ({ cls := "QuotedRiver", name := "drawn", desc := "(II)I" } : Jvm.MethodName)) ∈ lw_all := lw_g (lw_at lw_m7 10 rfl) rfl
theorem q1560 : (Jvm.Cond.methodLink "QuotedRiverLaw" (292 : Nat) ({ cls := "QuotedRiver", name := "luck", desc := "(III)I" } : Jvm.MethodName)) ∈ lw_all := lw_g (lw_at lw_m7 28 rfl) rfl
theorem q1565 : (Jvm.Cond.methodLink "QuotedRiverLaw" (296 : Nat) ({ cls := "QuotedRiver", name := "deepen", desc := "(II)I" } : Jvm.MethodName)) ∈ lw_all := lw_g (lw_at lw_m7 33 rfl) rfl
theorem q1569 : (Jvm.Cond.methodLink "QuotedRiverLaw" (300 : Nat) ({ cls := "QuotedRiver", name := "count", desc := "(I)I" } : Jvm.MethodName)) ∈ lw_all := lw_g (lw_at lw_m7 37 rfl) rfl
theorem q1573 : (Jvm.Cond.methodLink "QuotedRiverLaw" (304 : Nat) ({ cls := "QuotedRiver", name := "image", desc := "(I)I" } : Jvm.MethodName)) ∈ lw_all := lw_g (lw_at lw_m7 41 rfl) rfl
theorem q1617 : (Jvm.Cond.methodLink "QuotedRiverLaw" (308 : Nat) ({ cls := "QuotedRiver", name := "back", desc := "(I)I" } : Jvm.MethodName)) ∈ lw_all := lw_g (lw_at lw_m7 85 rfl) rfl
theorem q1621 : (Jvm.Cond.classLink "QuotedRiverLaw" (10 : Nat) "QuotedRiverModel") ∈ lw_all := lw_g (lw_at lw_m7 89 rfl) rfl
theorem q1623 : (Jvm.Cond.methodLink "QuotedRiverLaw" (12 : Nat) ({ cls := "QuotedRiverModel", name := "<init>", desc := "()V" } : Jvm.MethodName)) ∈ lw_all := lw_g (lw_at lw_m7 91 rfl) rfl
theorem q1755 : (Jvm.Cond.methodLink "QuotedRiverLaw" (307 : Nat) ({ cls := "QuotedRiverModel", name := "image", desc := "(I)I" } : Jvm.MethodName)) ∈ lw_all := lw_g (lw_at lw_m7 223 rfl) rfl
theorem q1763 : (Jvm.Cond.methodLink "QuotedRiverLaw" (311 : Nat) ({ cls := "QuotedRiverModel", name := "back", desc := "(I)I" } : Jvm.MethodName)) ∈ lw_all := lw_g (lw_at lw_m7 231 rfl) rfl
theorem q1767 : (Jvm.Cond.methodLink "QuotedRiverLaw" (17 : Nat) ({ cls := "QuotedRiverModel", name := "feed", desc := "(IIIII)I" } : Jvm.MethodName)) ∈ lw_all := lw_g (lw_at lw_m7 235 rfl) rfl
theorem q1771 : (Jvm.Cond.methodLink "QuotedRiverLaw" (22 : Nat) ({ cls := "QuotedRiverModel", name := "end", desc := "(I)I" } : Jvm.MethodName)) ∈ lw_all := lw_g (lw_at lw_m7 239 rfl) rfl
theorem q1775 : (Jvm.Cond.methodLink "QuotedRiverLaw" (31 : Nat) ({ cls := "QuotedRiverModel", name := "fault", desc := "(I)I" } : Jvm.MethodName)) ∈ lw_all := lw_g (lw_at lw_m8 3 rfl) rfl
theorem q1779 : (Jvm.Cond.methodLink "QuotedRiverLaw" (27 : Nat) ({ cls := "QuotedRiverModel", name := "rivers", desc := "()I" } : Jvm.MethodName)) ∈ lw_all := lw_g (lw_at lw_m8 7 rfl) rfl
theorem q1864 : (Jvm.Cond.methodLink "QuotedRiverLaw" (36 : Nat) ({ cls := "QuotedRiverModel", name := "reach", desc := "(II)I" } : Jvm.MethodName)) ∈ lw_all := lw_g (lw_at lw_m8 92 rfl) rfl
theorem q1876 : (Jvm.Cond.methodLink "QuotedRiverLaw" (44 : Nat) ({ cls := "QuotedRiverModel", name := "rain", desc := "(II)I" } : Jvm.MethodName)) ∈ lw_all := lw_g (lw_at lw_m8 104 rfl) rfl
theorem q1880 : (Jvm.Cond.methodLink "QuotedRiverLaw" (40 : Nat) ({ cls := "QuotedRiverModel", name := "join", desc := "(II)I" } : Jvm.MethodName)) ∈ lw_all := lw_g (lw_at lw_m8 108 rfl) rfl
theorem q1893 : (Jvm.Cond.methodLink "QuotedRiverLaw" (48 : Nat) ({ cls := "QuotedRiverModel", name := "level", desc := "(I)I" } : Jvm.MethodName)) ∈ lw_all := lw_g (lw_at lw_m8 121 rfl) rfl
theorem q1918 : (Jvm.Cond.methodLink "QuotedRiverLaw" (52 : Nat) ({ cls := "QuotedRiverModel", name := "stands", desc := "(I)I" } : Jvm.MethodName)) ∈ lw_all := lw_g (lw_at lw_m8 146 rfl) rfl
theorem q1922 : (Jvm.Cond.methodLink "QuotedRiverLaw" (56 : Nat) ({ cls := "QuotedRiverModel", name := "dry", desc := "(I)I" } : Jvm.MethodName)) ∈ lw_all := lw_g (lw_at lw_m8 150 rfl) rfl
theorem q1933 : (Jvm.Cond.methodLink "QuotedRiverLaw" (60 : Nat) ({ cls := "QuotedRiverModel", name := "drought", desc := "(I)I" } : Jvm.MethodName)) ∈ lw_all := lw_g (lw_at lw_m8 161 rfl) rfl
theorem q1937 : (Jvm.Cond.methodLink "QuotedRiverLaw" (121 : Nat) ({ cls := "QuotedRiverModel", name := "flows", desc := "(I)I" } : Jvm.MethodName)) ∈ lw_all := lw_g (lw_at lw_m8 165 rfl) rfl
theorem q1941 : (Jvm.Cond.methodLink "QuotedRiverLaw" (109 : Nat) ({ cls := "QuotedRiverModel", name := "idle", desc := "(I)I" } : Jvm.MethodName)) ∈ lw_all := lw_g (lw_at lw_m8 169 rfl) rfl
theorem q1945 : (Jvm.Cond.methodLink "QuotedRiverLaw" (141 : Nat) ({ cls := "QuotedRiverModel", name := "rained", desc := "(I)I" } : Jvm.MethodName)) ∈ lw_all := lw_g (lw_at lw_m8 173 rfl) rfl
theorem q1949 : (Jvm.Cond.methodLink "QuotedRiverLaw" (145 : Nat) ({ cls := "QuotedRiverModel", name := "lowest", desc := "()I" } : Jvm.MethodName)) ∈ lw_all := lw_g (lw_at lw_m8 177 rfl) rfl
theorem q1957 : (Jvm.Cond.methodLink "QuotedRiverLaw" (149 : Nat) ({ cls := "QuotedRiverModel", name := "deeper", desc := "()I" } : Jvm.MethodName)) ∈ lw_all := lw_g (lw_at lw_m8 185 rfl) rfl
theorem q1961 : (Jvm.Cond.methodLink "QuotedRiverLaw" (125 : Nat) ({ cls := "QuotedRiverModel", name := "mouths", desc := "()I" } : Jvm.MethodName)) ∈ lw_all := lw_g (lw_at lw_m8 189 rfl) rfl
theorem q1965 : (Jvm.Cond.methodLink "QuotedRiverLaw" (129 : Nat) ({ cls := "QuotedRiverModel", name := "springs", desc := "()I" } : Jvm.MethodName)) ∈ lw_all := lw_g (lw_at lw_m8 193 rfl) rfl
theorem q1969 : (Jvm.Cond.methodLink "QuotedRiverLaw" (133 : Nat) ({ cls := "QuotedRiverModel", name := "depth", desc := "(I)I" } : Jvm.MethodName)) ∈ lw_all := lw_g (lw_at lw_m8 197 rfl) rfl
theorem q1973 : (Jvm.Cond.methodLink "QuotedRiverLaw" (137 : Nat) ({ cls := "QuotedRiverModel", name := "rings", desc := "()I" } : Jvm.MethodName)) ∈ lw_all := lw_g (lw_at lw_m8 201 rfl) rfl
theorem q1977 : (Jvm.Cond.methodLink "QuotedRiverLaw" (153 : Nat) ({ cls := "QuotedRiverModel", name := "goes", desc := "(II)I" } : Jvm.MethodName)) ∈ lw_all := lw_g (lw_at lw_m8 205 rfl) rfl
theorem q1981 : (Jvm.Cond.methodLink "QuotedRiverLaw" (65 : Nat) ({ cls := "QuotedRiverModel", name := "where", desc := "(III)I" } : Jvm.MethodName)) ∈ lw_all := lw_g (lw_at lw_m8 209 rfl) rfl
theorem q1997 : (Jvm.Cond.methodLink "QuotedRiverLaw" (69 : Nat) ({ cls := "QuotedRiverModel", name := "sea", desc := "(II)I" } : Jvm.MethodName)) ∈ lw_all := lw_g (lw_at lw_m8 225 rfl) rfl
theorem q2005 : (Jvm.Cond.methodLink "QuotedRiverLaw" (73 : Nat) ({ cls := "QuotedRiverModel", name := "comes", desc := "(III)I" } : Jvm.MethodName)) ∈ lw_all := lw_g (lw_at lw_m8 233 rfl) rfl
theorem q2009 : (Jvm.Cond.methodLink "QuotedRiverLaw" (77 : Nat) ({ cls := "QuotedRiverModel", name := "way", desc := "(II)I" } : Jvm.MethodName)) ∈ lw_all := lw_g (lw_at lw_m8 237 rfl) rfl
theorem q2013 : (Jvm.Cond.methodLink "QuotedRiverLaw" (81 : Nat) ({ cls := "QuotedRiverModel", name := "leaves", desc := "(II)I" } : Jvm.MethodName)) ∈ lw_all := lw_g (lw_at lw_m9 1 rfl) rfl
theorem q2017 : (Jvm.Cond.methodLink "QuotedRiverLaw" (85 : Nat) ({ cls := "QuotedRiverModel", name := "waits", desc := "(II)I" } : Jvm.MethodName)) ∈ lw_all := lw_g (lw_at lw_m9 5 rfl) rfl
theorem q2021 : (Jvm.Cond.methodLink "QuotedRiverLaw" (89 : Nat) ({ cls := "QuotedRiverModel", name := "jumps", desc := "(II)I" } : Jvm.MethodName)) ∈ lw_all := lw_g (lw_at lw_m9 9 rfl) rfl
theorem q2025 : (Jvm.Cond.methodLink "QuotedRiverLaw" (157 : Nat) ({ cls := "QuotedRiverModel", name := "used", desc := "(II)I" } : Jvm.MethodName)) ∈ lw_all := lw_g (lw_at lw_m9 13 rfl) rfl
theorem q2029 : (Jvm.Cond.methodLink "QuotedRiverLaw" (161 : Nat) ({ cls := "QuotedRiverModel", name := "together", desc := "(II)I" } : Jvm.MethodName)) ∈ lw_all := lw_g (lw_at lw_m9 17 rfl) rfl
theorem q2033 : (Jvm.Cond.methodLink "QuotedRiverLaw" (165 : Nat) ({ cls := "QuotedRiverModel", name := "again", desc := "(II)I" } : Jvm.MethodName)) ∈ lw_all := lw_g (lw_at lw_m9 21 rfl) rfl
theorem q2037 : (Jvm.Cond.methodLink "QuotedRiverLaw" (169 : Nat) ({ cls := "QuotedRiverModel", name := "can", desc := "(I)I" } : Jvm.MethodName)) ∈ lw_all := lw_g (lw_at lw_m9 25 rfl) rfl
theorem q2042 : (Jvm.Cond.methodLink "QuotedRiverLaw" (93 : Nat) ({ cls := "QuotedRiverModel", name := "finds", desc := "(II)I" } : Jvm.MethodName)) ∈ lw_all := lw_g (lw_at lw_m9 30 rfl) rfl
theorem q2046 : (Jvm.Cond.methodLink "QuotedRiverLaw" (97 : Nat) ({ cls := "QuotedRiverModel", name := "from", desc := "(II)I" } : Jvm.MethodName)) ∈ lw_all := lw_g (lw_at lw_m9 34 rfl) rfl
theorem q2050 : (Jvm.Cond.methodLink "QuotedRiverLaw" (101 : Nat) ({ cls := "QuotedRiverModel", name := "ends", desc := "(I)I" } : Jvm.MethodName)) ∈ lw_all := lw_g (lw_at lw_m9 38 rfl) rfl
theorem q2054 : (Jvm.Cond.methodLink "QuotedRiverLaw" (105 : Nat) ({ cls := "QuotedRiverModel", name := "meet", desc := "(II)I" } : Jvm.MethodName)) ∈ lw_all := lw_g (lw_at lw_m9 42 rfl) rfl
theorem q2058 : (Jvm.Cond.methodLink "QuotedRiverLaw" (113 : Nat) ({ cls := "QuotedRiverModel", name := "alike", desc := "(II)I" } : Jvm.MethodName)) ∈ lw_all := lw_g (lw_at lw_m9 46 rfl) rfl
theorem q2062 : (Jvm.Cond.methodLink "QuotedRiverLaw" (117 : Nat) ({ cls := "QuotedRiverModel", name := "busy", desc := "(I)I" } : Jvm.MethodName)) ∈ lw_all := lw_g (lw_at lw_m9 50 rfl) rfl
theorem q2066 : (Jvm.Cond.methodLink "QuotedRiverLaw" (186 : Nat) ({ cls := "QuotedRiverModel", name := "soon", desc := "(II)I" } : Jvm.MethodName)) ∈ lw_all := lw_g (lw_at lw_m9 54 rfl) rfl
theorem q2075 : (Jvm.Cond.methodLink "QuotedRiverLaw" (190 : Nat) ({ cls := "QuotedRiverModel", name := "quick", desc := "(II)I" } : Jvm.MethodName)) ∈ lw_all := lw_g (lw_at lw_m9 63 rfl) rfl
theorem q2083 : (Jvm.Cond.methodLink "QuotedRiverLaw" (194 : Nat) ({ cls := "QuotedRiverModel", name := "quickly", desc := "(II)I" } : Jvm.MethodName)) ∈ lw_all := lw_g (lw_at lw_m9 71 rfl) rfl
theorem q2087 : (Jvm.Cond.methodLink "QuotedRiverLaw" (173 : Nat) ({ cls := "QuotedRiverModel", name := "slowly", desc := "(II)I" } : Jvm.MethodName)) ∈ lw_all := lw_g (lw_at lw_m9 75 rfl) rfl
theorem q2091 : (Jvm.Cond.methodLink "QuotedRiverLaw" (198 : Nat) ({ cls := "QuotedRiverModel", name := "late", desc := "(III)I" } : Jvm.MethodName)) ∈ lw_all := lw_g (lw_at lw_m9 79 rfl) rfl
theorem q2095 : (Jvm.Cond.methodLink "QuotedRiverLaw" (202 : Nat) ({ cls := "QuotedRiverModel", name := "often", desc := "(II)I" } : Jvm.MethodName)) ∈ lw_all := lw_g (lw_at lw_m9 83 rfl) rfl
theorem q2103 : (Jvm.Cond.methodLink "QuotedRiverLaw" (206 : Nat) ({ cls := "QuotedRiverModel", name := "stop", desc := "(II)I" } : Jvm.MethodName)) ∈ lw_all := lw_g (lw_at lw_m9 91 rfl) rfl
theorem q2114 : (Jvm.Cond.methodLink "QuotedRiverLaw" (210 : Nat) ({ cls := "QuotedRiverModel", name := "stops", desc := "(II)I" } : Jvm.MethodName)) ∈ lw_all := lw_g (lw_at lw_m9 102 rfl) rfl
theorem q2118 : (Jvm.Cond.methodLink "QuotedRiverLaw" (214 : Nat) ({ cls := "QuotedRiverModel", name := "shut", desc := "(II)I" } : Jvm.MethodName)) ∈ lw_all := lw_g (lw_at lw_m9 106 rfl) rfl
theorem q2126 : (Jvm.Cond.methodLink "QuotedRiverLaw" (218 : Nat) ({ cls := "QuotedRiverModel", name := "pour", desc := "(III)I" } : Jvm.MethodName)) ∈ lw_all := lw_g (lw_at lw_m9 114 rfl) rfl
theorem q2130 : (Jvm.Cond.methodLink "QuotedRiverLaw" (222 : Nat) ({ cls := "QuotedRiverModel", name := "fits", desc := "(I)I" } : Jvm.MethodName)) ∈ lw_all := lw_g (lw_at lw_m9 118 rfl) rfl
theorem q2153 : (Jvm.Cond.methodLink "QuotedRiverLaw" (226 : Nat) ({ cls := "QuotedRiverModel", name := "sources", desc := "(I)I" } : Jvm.MethodName)) ∈ lw_all := lw_g (lw_at lw_m9 141 rfl) rfl
theorem q2157 : (Jvm.Cond.methodLink "QuotedRiverLaw" (230 : Nat) ({ cls := "QuotedRiverModel", name := "source", desc := "(I)I" } : Jvm.MethodName)) ∈ lw_all := lw_g (lw_at lw_m9 145 rfl) rfl
theorem q2161 : (Jvm.Cond.methodLink "QuotedRiverLaw" (234 : Nat) ({ cls := "QuotedRiverModel", name := "ask", desc := "(I)I" } : Jvm.MethodName)) ∈ lw_all := lw_g (lw_at lw_m9 149 rfl) rfl
theorem q2169 : (Jvm.Cond.methodLink "QuotedRiverLaw" (238 : Nat) ({ cls := "QuotedRiverModel", name := "doubts", desc := "(I)I" } : Jvm.MethodName)) ∈ lw_all := lw_g (lw_at lw_m9 157 rfl) rfl
theorem q2173 : (Jvm.Cond.methodLink "QuotedRiverLaw" (242 : Nat) ({ cls := "QuotedRiverModel", name := "turn", desc := "(III)I" } : Jvm.MethodName)) ∈ lw_all := lw_g (lw_at lw_m9 161 rfl) rfl
theorem q2181 : (Jvm.Cond.methodLink "QuotedRiverLaw" (246 : Nat) ({ cls := "QuotedRiverModel", name := "turned", desc := "(III)I" } : Jvm.MethodName)) ∈ lw_all := lw_g (lw_at lw_m9 169 rfl) rfl
theorem q2185 : (Jvm.Cond.methodLink "QuotedRiverLaw" (250 : Nat) ({ cls := "QuotedRiverModel", name := "rests", desc := "()I" } : Jvm.MethodName)) ∈ lw_all := lw_g (lw_at lw_m9 173 rfl) rfl
theorem q2195 : (Jvm.Cond.methodLink "QuotedRiverLaw" (254 : Nat) ({ cls := "QuotedRiverModel", name := "rest", desc := "()I" } : Jvm.MethodName)) ∈ lw_all := lw_g (lw_at lw_m9 183 rfl) rfl
theorem q2199 : (Jvm.Cond.methodLink "QuotedRiverLaw" (258 : Nat) ({ cls := "QuotedRiverModel", name := "has", desc := "(II)I" } : Jvm.MethodName)) ∈ lw_all := lw_g (lw_at lw_m9 187 rfl) rfl
theorem q2204 : (Jvm.Cond.methodLink "QuotedRiverLaw" (182 : Nat) ({ cls := "QuotedRiverModel", name := "answer", desc := "(I)I" } : Jvm.MethodName)) ∈ lw_all := lw_g (lw_at lw_m9 192 rfl) rfl
theorem q2208 : (Jvm.Cond.methodLink "QuotedRiverLaw" (262 : Nat) ({ cls := "QuotedRiverModel", name := "treaty", desc := "()I" } : Jvm.MethodName)) ∈ lw_all := lw_g (lw_at lw_m9 196 rfl) rfl
theorem q2212 : (Jvm.Cond.methodLink "QuotedRiverLaw" (267 : Nat) ({ cls := "QuotedRiverModel", name := "chance", desc := "(III)J" } : Jvm.MethodName)) ∈ lw_all := lw_g (lw_at lw_m9 200 rfl) rfl
theorem q2234 : (Jvm.Cond.methodLink "QuotedRiverLaw" (178 : Nat) ({ cls := "QuotedRiverModel", name := "mean", desc := "(II)J" } : Jvm.MethodName)) ∈ lw_all := lw_g (lw_at lw_m9 222 rfl) rfl
theorem q2238 : (Jvm.Cond.methodLink "QuotedRiverLaw" (271 : Nat) ({ cls := "QuotedRiverModel", name := "risk", desc := "(II)I" } : Jvm.MethodName)) ∈ lw_all := lw_g (lw_at lw_m9 226 rfl) rfl
theorem q2243 : (Jvm.Cond.methodLink "QuotedRiverLaw" (275 : Nat) ({ cls := "QuotedRiverModel", name := "close", desc := "(II)I" } : Jvm.MethodName)) ∈ lw_all := lw_g (lw_at lw_m9 231 rfl) rfl
theorem q2251 : (Jvm.Cond.methodLink "QuotedRiverLaw" (279 : Nat) ({ cls := "QuotedRiverModel", name := "pours", desc := "(II)I" } : Jvm.MethodName)) ∈ lw_all := lw_g (lw_at lw_m9 239 rfl) rfl
theorem q2256 : (Jvm.Cond.methodLink "QuotedRiverLaw" (283 : Nat) ({ cls := "QuotedRiverModel", name := "undo", desc := "()I" } : Jvm.MethodName)) ∈ lw_all := lw_g (lw_at lw_m10 4 rfl) rfl
theorem q2260 : (Jvm.Cond.methodLink "QuotedRiverLaw" (287 : Nat) ({ cls := "QuotedRiverModel", name := "anew", desc := "()I" } : Jvm.MethodName)) ∈ lw_all := lw_g (lw_at lw_m10 8 rfl) rfl
theorem q2264 : (Jvm.Cond.methodLink "QuotedRiverLaw" (291 : Nat) ({ cls := "QuotedRiverModel", name := "drawn", desc := "(II)I" } : Jvm.MethodName)) ∈ lw_all := lw_g (lw_at lw_m10 12 rfl) rfl
theorem q2281 : (Jvm.Cond.methodLink "QuotedRiverLaw" (295 : Nat) ({ cls := "QuotedRiverModel", name := "luck", desc := "(III)I" } : Jvm.MethodName)) ∈ lw_all := lw_g (lw_at lw_m10 29 rfl) rfl
theorem q2286 : (Jvm.Cond.methodLink "QuotedRiverLaw" (299 : Nat) ({ cls := "QuotedRiverModel", name := "deepen", desc := "(II)I" } : Jvm.MethodName)) ∈ lw_all := lw_g (lw_at lw_m10 34 rfl) rfl
theorem q2290 : (Jvm.Cond.methodLink "QuotedRiverLaw" (303 : Nat) ({ cls := "QuotedRiverModel", name := "count", desc := "(I)I" } : Jvm.MethodName)) ∈ lw_all := lw_g (lw_at lw_m10 38 rfl) rfl
theorem q2295 : (Jvm.Cond.methodLink "QuotedRiverLaw" (315 : Nat) ({ cls := "QuotedRiverModel", name := "row", desc := "(III)I" } : Jvm.MethodName)) ∈ lw_all := lw_g (lw_at lw_m10 43 rfl) rfl
theorem q2299 : (Jvm.Cond.methodLink "QuotedRiverLaw" (322 : Nat) ({ cls := "QuotedRiverModel", name := "write", desc := "(IIJ)I" } : Jvm.MethodName)) ∈ lw_all := lw_g (lw_at lw_m10 47 rfl) rfl
theorem q2306 : (Jvm.Cond.methodLink "QuotedRiverLaw" (326 : Nat) ({ cls := "QuotedRiverModel", name := "paste", desc := "(IIIII)I" } : Jvm.MethodName)) ∈ lw_all := lw_g (lw_at lw_m10 54 rfl) rfl
theorem q2310 : (Jvm.Cond.constantLong "QuotedRiverLaw" (316 : Nat) (4294967295 : Int64)) ∈ lw_all := lw_g (lw_at lw_m10 58 rfl) rfl
theorem q2338 : (Jvm.Cond.castable "[B" "java/lang/Object") ∈ lw_tbl := lw_at lw_m10 86 rfl
theorem q2340 : (Jvm.Cond.castable "[I" "java/lang/Object") ∈ lw_tbl := lw_at lw_m10 88 rfl
theorem q2341 : (Jvm.Cond.castable "[J" "java/lang/Object") ∈ lw_tbl := lw_at lw_m10 89 rfl
theorem q2344 : (Jvm.Cond.castable "[LQuotedRiver$Rivers;" "java/lang/Object") ∈ lw_tbl := lw_at lw_m10 92 rfl
theorem q2342 : (Jvm.Cond.castable "[LQuotedRiver$Slot;" "java/lang/Object") ∈ lw_tbl := lw_at lw_m10 90 rfl
theorem q2335 : (Jvm.Cond.sameMethod "[Ljava/lang/Object;" "java/lang/Object" "getClass" "()Ljava/lang/Class;") ∈ lw_all := lw_g (lw_at lw_m10 83 rfl) rfl
theorem q2336 : (Jvm.Cond.selects "[Ljava/lang/Object;" ({ cls := "java/lang/Object", name := "getClass", desc := "()Ljava/lang/Class;" } : Jvm.MethodName) ({ cls := "java/lang/Object", name := "getClass", desc := "()Ljava/lang/Class;" } : Jvm.MethodName)) ∈ lw_all := lw_g (lw_at lw_m10 84 rfl) rfl
theorem q2343 : (Jvm.Cond.castable "[Ljava/lang/Object;" "java/lang/Object") ∈ lw_tbl := lw_at lw_m10 91 rfl
theorem q2339 : (Jvm.Cond.castable "[S" "java/lang/Object") ∈ lw_tbl := lw_at lw_m10 87 rfl
theorem q2345 : (Jvm.Cond.castable "[Z" "java/lang/Object") ∈ lw_tbl := lw_at lw_m10 93 rfl
theorem q116 : (Jvm.Cond.initialized "java/lang/System") ∈ lw_all := lw_g (lw_at lw_m1 24 rfl) rfl
theorem q327 : (Jvm.Cond.static ({ cls := "java/lang/System", name := "arraycopy", desc := "(Ljava/lang/Object;ILjava/lang/Object;II)V" } : Jvm.MethodName)) ∈ lw_all := lw_g (lw_at lw_m1 235 rfl) rfl
theorem q328 : (Jvm.Cond.native ({ cls := "java/lang/System", name := "arraycopy", desc := "(Ljava/lang/Object;ILjava/lang/Object;II)V" } : Jvm.MethodName)) ∈ lw_all := lw_g (lw_at lw_m1 236 rfl) rfl
theorem q1609 : (Jvm.Cond.interfaceMethod "java/util/Collection" "java/util/Collection" "toArray" "()[Ljava/lang/Object;") ∈ lw_tbl := lw_at lw_m7 77 rfl
theorem q1610 : (Jvm.Cond.declares ({ cls := "java/util/Collection", name := "toArray", desc := "()[Ljava/lang/Object;" } : Jvm.MethodName)) ∈ lw_tbl := lw_at lw_m7 78 rfl
theorem q976 : (Jvm.Cond.interfaceMethod "java/util/Iterator" "java/util/Iterator" "hasNext" "()Z") ∈ lw_tbl := lw_at lw_m4 164 rfl
theorem q977 : (Jvm.Cond.declares ({ cls := "java/util/Iterator", name := "hasNext", desc := "()Z" } : Jvm.MethodName)) ∈ lw_tbl := lw_at lw_m4 165 rfl
theorem q986 : (Jvm.Cond.interfaceMethod "java/util/Iterator" "java/util/Iterator" "next" "()Ljava/lang/Object;") ∈ lw_tbl := lw_at lw_m4 174 rfl
theorem q987 : (Jvm.Cond.declares ({ cls := "java/util/Iterator", name := "next", desc := "()Ljava/lang/Object;" } : Jvm.MethodName)) ∈ lw_tbl := lw_at lw_m4 175 rfl
theorem q784 : (Jvm.Cond.interfaceMethod "java/util/List" "java/util/List" "size" "()I") ∈ lw_tbl := lw_at lw_m3 212 rfl
theorem q785 : (Jvm.Cond.declares ({ cls := "java/util/List", name := "size", desc := "()I" } : Jvm.MethodName)) ∈ lw_tbl := lw_at lw_m3 213 rfl
theorem q827 : (Jvm.Cond.interfaceMethod "java/util/List" "java/util/List" "add" "(Ljava/lang/Object;)Z") ∈ lw_tbl := lw_at lw_m4 15 rfl
theorem q828 : (Jvm.Cond.declares ({ cls := "java/util/List", name := "add", desc := "(Ljava/lang/Object;)Z" } : Jvm.MethodName)) ∈ lw_tbl := lw_at lw_m4 16 rfl
theorem q948 : (Jvm.Cond.interfaceMethod "java/util/List" "java/util/List" "iterator" "()Ljava/util/Iterator;") ∈ lw_tbl := lw_at lw_m4 136 rfl
theorem q949 : (Jvm.Cond.declares ({ cls := "java/util/List", name := "iterator", desc := "()Ljava/util/Iterator;" } : Jvm.MethodName)) ∈ lw_tbl := lw_at lw_m4 137 rfl
theorem q1026 : (Jvm.Cond.interfaceMethod "java/util/List" "java/util/List" "get" "(I)Ljava/lang/Object;") ∈ lw_tbl := lw_at lw_m4 214 rfl
theorem q1027 : (Jvm.Cond.declares ({ cls := "java/util/List", name := "get", desc := "(I)Ljava/lang/Object;" } : Jvm.MethodName)) ∈ lw_tbl := lw_at lw_m4 215 rfl
theorem q1508 : (Jvm.Cond.interfaceMethod "java/util/List" "java/util/List" "isEmpty" "()Z") ∈ lw_tbl := lw_at lw_m6 216 rfl
theorem q1509 : (Jvm.Cond.declares ({ cls := "java/util/List", name := "isEmpty", desc := "()Z" } : Jvm.MethodName)) ∈ lw_tbl := lw_at lw_m6 217 rfl
theorem q1517 : (Jvm.Cond.interfaceMethod "java/util/List" "java/util/List" "remove" "(I)Ljava/lang/Object;") ∈ lw_tbl := lw_at lw_m6 225 rfl
theorem q1518 : (Jvm.Cond.declares ({ cls := "java/util/List", name := "remove", desc := "(I)Ljava/lang/Object;" } : Jvm.MethodName)) ∈ lw_tbl := lw_at lw_m6 226 rfl
theorem q1535 : (Jvm.Cond.interfaceMethod "java/util/List" "java/util/List" "clear" "()V") ∈ lw_tbl := lw_at lw_m7 3 rfl
theorem q1536 : (Jvm.Cond.declares ({ cls := "java/util/List", name := "clear", desc := "()V" } : Jvm.MethodName)) ∈ lw_tbl := lw_at lw_m7 4 rfl
theorem q1600 : (Jvm.Cond.interfaceMethod "java/util/List" "java/util/List" "addAll" "(Ljava/util/Collection;)Z") ∈ lw_tbl := lw_at lw_m7 68 rfl
theorem q1601 : (Jvm.Cond.declares ({ cls := "java/util/List", name := "addAll", desc := "(Ljava/util/Collection;)Z" } : Jvm.MethodName)) ∈ lw_tbl := lw_at lw_m7 69 rfl
theorem q226 : (Jvm.Cond.arrayClass Jvm.ClassFile.FieldType.byte) ∈ lw_all := lw_g (lw_at lw_m1 134 rfl) rfl
theorem q231 : (Jvm.Cond.arrayClass Jvm.ClassFile.FieldType.short) ∈ lw_all := lw_g (lw_at lw_m1 139 rfl) rfl
theorem q232 : (Jvm.Cond.arrayClass Jvm.ClassFile.FieldType.int) ∈ lw_all := lw_g (lw_at lw_m1 140 rfl) rfl
theorem q233 : (Jvm.Cond.arrayClass Jvm.ClassFile.FieldType.long) ∈ lw_all := lw_g (lw_at lw_m1 141 rfl) rfl
theorem q336 : (Jvm.Cond.arrayOver (Jvm.ClassFile.FieldType.object "QuotedRiver$Slot")) ∈ lw_tbl := lw_at lw_m2 4 rfl
theorem q365 : (Jvm.Cond.arrayOver (Jvm.ClassFile.FieldType.object "java/lang/Object")) ∈ lw_tbl := lw_at lw_m2 33 rfl
theorem q434 : (Jvm.Cond.arrayOver (Jvm.ClassFile.FieldType.object "QuotedRiver$Rivers")) ∈ lw_tbl := lw_at lw_m2 102 rfl
theorem q1754 : (Jvm.Cond.arrayClass Jvm.ClassFile.FieldType.boolean) ∈ lw_all := lw_g (lw_at lw_m7 222 rfl) rfl
abbrev vwCl : List vw_C := [(RX0, TX0, 15), (RX6, TX6, 42), (RX1, TX1, 1), (RX2, TX2, 8), (RX3, TX3, 9), (RX4, TX4, 9), (RX5, TX5, 7), (RX7, TX7, 7), (RX8, TX8, 8), (RX9, TX9, 3), (RX10, TX10, 4), (RX11, TX11, 2), (RX12, TX12, 3), (RJ2, TJ2, 3), (RJ13, TJ13, 4)]
