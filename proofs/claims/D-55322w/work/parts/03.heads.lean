/-! class names, fields (out of claim/names) -/
set_option maxRecDepth 100000
def RX0 : String := "SpanRulerLaw"
def RX1 : String := "SpanRuler"
def TX1 : u_T := fun k => match k with
  | 0 => ("SpanRuler", "ruler", "LSpanRuler$Ruler;", false)
  | 1 => ("SpanRuler", "saved", "LSpanRuler$Ruler;", false)
  | 2 => ("SpanRuler", "history", "Ljava/util/ArrayList;", true)
  | 3 => ("SpanRuler", "input", "[C", true)
  | 4 => ("SpanRuler", "line", "Ljava/lang/StringBuilder;", true)
  | 5 => ("SpanRuler", "typed", "I", false)
  | 6 => ("SpanRuler", "badText", "LSpanRuler$BadText;", false)
  | _ => ("SpanRuler", "refusal", "LSpanRuler$Refusal;", false)
def tyX1 : Nat → FieldType := fun k => match k with
  | 0 => .object "SpanRuler$Ruler"
  | 1 => .object "SpanRuler$Ruler"
  | 2 => .object "java/util/ArrayList"
  | 3 => .array .char
  | 4 => .object "java/lang/StringBuilder"
  | 5 => .int
  | 6 => .object "SpanRuler$BadText"
  | _ => .object "SpanRuler$Refusal"
abbrev wsX10 : List Cond := u_ws RX1 TX1 8
theorem nmX1 : ∀ a, a < 8 → ∀ b, b < 8 → a ≠ b → (TX1 a).2.1 ≠ (TX1 b).2.1 := by decide +kernel
theorem tyX1_ok : ∀ k, k < 8 → parseFieldDescriptor (TX1 k).2.2.1 = some (tyX1 k) := by decide +kernel
theorem in_X1 : ∀ w ∈ wsX10, w ∈ lw_all := lw_in wsX10 [327, 329, 331, 333, 335, 337, 339, 341] (by decide +kernel) (by decide +kernel)
def RX2 : String := "SpanRuler$Ruler"
def TX2 : u_T := fun k => match k with
  | 0 => ("SpanRuler$Ruler", "root", "LSpanRuler$Node;", false)
  | 1 => ("SpanRuler$Ruler", "colours", "[I", true)
  | 2 => ("SpanRuler$Ruler", "notes", "Ljava/util/ArrayList;", true)
  | 3 => ("SpanRuler$Ruler", "versions", "Ljava/util/ArrayList;", true)
  | 4 => ("SpanRuler$Ruler", "done", "I", false)
  | 5 => ("SpanRuler$Ruler", "missed", "I", false)
  | 6 => ("SpanRuler$Ruler", "struck", "I", false)
  | 7 => ("SpanRuler$Ruler", "ticks", "I", false)
  | 8 => ("SpanRuler$Ruler", "acts", "I", false)
  | _ => ("SpanRuler$Ruler", "painted", "I", false)
def tyX2 : Nat → FieldType := fun k => match k with
  | 0 => .object "SpanRuler$Node"
  | 1 => .array .int
  | 2 => .object "java/util/ArrayList"
  | 3 => .object "java/util/ArrayList"
  | 4 => .int
  | 5 => .int
  | 6 => .int
  | 7 => .int
  | 8 => .int
  | _ => .int
abbrev wsX20 : List Cond := u_ws RX2 TX2 10
theorem nmX2 : ∀ a, a < 10 → ∀ b, b < 10 → a ≠ b → (TX2 a).2.1 ≠ (TX2 b).2.1 := by decide +kernel
theorem tyX2_ok : ∀ k, k < 10 → parseFieldDescriptor (TX2 k).2.2.1 = some (tyX2 k) := by decide +kernel
theorem in_X2 : ∀ w ∈ wsX20, w ∈ lw_all := lw_in wsX20 [262, 264, 266, 268, 270, 272, 274, 276, 278, 280] (by decide +kernel) (by decide +kernel)
def RX3 : String := "SpanRuler$Node"
def RX4 : String := "SpanRuler$Leaf"
def TX4 : u_T := fun k => match k with
  | 0 => ("SpanRuler$Node", "from", "I", true)
  | 1 => ("SpanRuler$Node", "to", "I", true)
  | 2 => ("SpanRuler$Node", "sum", "I", false)
  | 3 => ("SpanRuler$Node", "greatest", "I", false)
  | _ => ("SpanRuler$Node", "least", "I", false)
def tyX4 : Nat → FieldType := fun k => match k with
  | 0 => .int
  | 1 => .int
  | 2 => .int
  | 3 => .int
  | _ => .int
abbrev wsX40 : List Cond := u_ws RX4 TX4 5
theorem nmX4 : ∀ a, a < 5 → ∀ b, b < 5 → a ≠ b → (TX4 a).2.1 ≠ (TX4 b).2.1 := by decide +kernel
theorem tyX4_ok : ∀ k, k < 5 → parseFieldDescriptor (TX4 k).2.2.1 = some (tyX4 k) := by decide +kernel
theorem in_X4 : ∀ w ∈ wsX40, w ∈ lw_all := lw_in wsX40 [164, 166, 168, 170, 172] (by decide +kernel) (by decide +kernel)
def RX5 : String := "SpanRuler$Inner"
def RX6 : String := "SpanRuler$Branch"
def TX6 : u_T := fun k => match k with
  | 0 => ("SpanRuler$Node", "from", "I", true)
  | 1 => ("SpanRuler$Node", "to", "I", true)
  | 2 => ("SpanRuler$Node", "sum", "I", false)
  | 3 => ("SpanRuler$Node", "greatest", "I", false)
  | 4 => ("SpanRuler$Node", "least", "I", false)
  | 5 => ("SpanRuler$Branch", "left", "LSpanRuler$Node;", true)
  | 6 => ("SpanRuler$Branch", "right", "LSpanRuler$Node;", true)
  | _ => ("SpanRuler$Branch", "late", "LSpanRuler$Act;", false)
def tyX6 : Nat → FieldType := fun k => match k with
  | 0 => .int
  | 1 => .int
  | 2 => .int
  | 3 => .int
  | 4 => .int
  | 5 => .object "SpanRuler$Node"
  | 6 => .object "SpanRuler$Node"
  | _ => .object "SpanRuler$Act"
abbrev wsX60 : List Cond := u_ws RX6 TX6 8
theorem nmX6 : ∀ a, a < 8 → ∀ b, b < 8 → a ≠ b → (TX6 a).2.1 ≠ (TX6 b).2.1 := by decide +kernel
theorem tyX6_ok : ∀ k, k < 8 → parseFieldDescriptor (TX6 k).2.2.1 = some (tyX6 k) := by decide +kernel
theorem in_X6 : ∀ w ∈ wsX60, w ∈ lw_all := lw_in wsX60 [207, 208, 209, 210, 211, 201, 203, 205] (by decide +kernel) (by decide +kernel)
def RX7 : String := "SpanRuler$Act"
def TX7 : u_T := fun k => match k with
  | 0 => ("SpanRuler$Act", "factor", "I", true)
  | _ => ("SpanRuler$Act", "shift", "I", true)
def tyX7 : Nat → FieldType := fun k => match k with
  | 0 => .int
  | _ => .int
abbrev wsX70 : List Cond := u_ws RX7 TX7 2
theorem nmX7 : ∀ a, a < 2 → ∀ b, b < 2 → a ≠ b → (TX7 a).2.1 ≠ (TX7 b).2.1 := by decide +kernel
theorem tyX7_ok : ∀ k, k < 2 → parseFieldDescriptor (TX7 k).2.2.1 = some (tyX7 k) := by decide +kernel
theorem in_X7 : ∀ w ∈ wsX70, w ∈ lw_all := lw_in wsX70 [193, 195] (by decide +kernel) (by decide +kernel)
def RX8 : String := "SpanRulerModel"
def TX8 : u_T := fun k => match k with
  | 0 => ("SpanRulerModel", "now", "[I", true)
  | 1 => ("SpanRulerModel", "tried", "[I", true)
  | 2 => ("SpanRulerModel", "thought", "[I", true)
  | 3 => ("SpanRulerModel", "kept", "[I", true)
  | 4 => ("SpanRulerModel", "undos", "I", false)
  | 5 => ("SpanRulerModel", "saved", "[I", true)
  | 6 => ("SpanRulerModel", "isSaved", "Z", false)
  | 7 => ("SpanRulerModel", "line", "[C", true)
  | 8 => ("SpanRulerModel", "lined", "I", false)
  | 9 => ("SpanRulerModel", "text", "[C", true)
  | 10 => ("SpanRulerModel", "length", "I", false)
  | 11 => ("SpanRulerModel", "at", "I", false)
  | 12 => ("SpanRulerModel", "word", "Ljava/lang/String;", false)
  | 13 => ("SpanRulerModel", "told", "[I", true)
  | 14 => ("SpanRulerModel", "error", "I", false)
  | 15 => ("SpanRulerModel", "reason", "I", false)
  | 16 => ("SpanRulerModel", "detail", "I", false)
  | 17 => ("SpanRulerModel", "stretchFrom", "I", false)
  | 18 => ("SpanRulerModel", "stretchTo", "I", false)
  | 19 => ("SpanRulerModel", "answer", "I", false)
  | _ => ("SpanRulerModel", "thrown", "I", false)
def tyX8 : Nat → FieldType := fun k => match k with
  | 0 => .array .int
  | 1 => .array .int
  | 2 => .array .int
  | 3 => .array .int
  | 4 => .int
  | 5 => .array .int
  | 6 => .boolean
  | 7 => .array .char
  | 8 => .int
  | 9 => .array .char
  | 10 => .int
  | 11 => .int
  | 12 => .object "java/lang/String"
  | 13 => .array .int
  | 14 => .int
  | 15 => .int
  | 16 => .int
  | 17 => .int
  | 18 => .int
  | 19 => .int
  | _ => .int
abbrev wsX80 : List Cond := u_ws RX8 TX8 21
theorem nmX8 : ∀ a, a < 21 → ∀ b, b < 21 → a ≠ b → (TX8 a).2.1 ≠ (TX8 b).2.1 := by decide +kernel
theorem tyX8_ok : ∀ k, k < 21 → parseFieldDescriptor (TX8 k).2.2.1 = some (tyX8 k) := by decide +kernel
theorem in_X8 : ∀ w ∈ wsX80, w ∈ lw_all := lw_in wsX80 [2256, 2258, 2260, 2262, 2264, 2266, 2268, 2270, 2272, 2274, 2276, 2278, 2280, 2282, 2284, 2286, 2288, 2290, 2292, 2294, 2296] (by decide +kernel) (by decide +kernel)
def RX9 : String := "SpanRuler$Kind"
def RX10 : String := "SpanRuler$Note"
def TX10 : u_T := fun k => match k with
  | 0 => ("SpanRuler$Note", "kind", "LSpanRuler$Kind;", true)
  | 1 => ("SpanRuler$Note", "from", "I", true)
  | 2 => ("SpanRuler$Note", "to", "I", true)
  | 3 => ("SpanRuler$Note", "number", "I", true)
  | _ => ("SpanRuler$Note", "ticks", "I", false)
def tyX10 : Nat → FieldType := fun k => match k with
  | 0 => .object "SpanRuler$Kind"
  | 1 => .int
  | 2 => .int
  | 3 => .int
  | _ => .int
abbrev wsX100 : List Cond := u_ws RX10 TX10 5
theorem nmX10 : ∀ a, a < 5 → ∀ b, b < 5 → a ≠ b → (TX10 a).2.1 ≠ (TX10 b).2.1 := by decide +kernel
theorem tyX10_ok : ∀ k, k < 5 → parseFieldDescriptor (TX10 k).2.2.1 = some (tyX10 k) := by decide +kernel
theorem in_X10 : ∀ w ∈ wsX100, w ∈ lw_all := lw_in wsX100 [837, 839, 841, 843, 845] (by decide +kernel) (by decide +kernel)
def RX11 : String := "SpanRuler$Refusal"
def TX11 : u_T := fun k => match k with
  | 0 => ("java/lang/Throwable", "cause", "Ljava/lang/Throwable;", false)
  | 1 => ("java/lang/Throwable", "stackTrace", "[Ljava/lang/StackTraceElement;", false)
  | 2 => ("java/lang/Throwable", "suppressedExceptions", "Ljava/util/List;", false)
  | 3 => ("java/lang/Throwable", "detailMessage", "Ljava/lang/String;", false)
  | 4 => ("java/lang/Throwable", "backtrace", "Ljava/lang/Object;", false)
  | 5 => ("java/lang/Throwable", "depth", "I", false)
  | 6 => ("SpanRuler$Refusal", "reason", "I", true)
  | _ => ("SpanRuler$Refusal", "detail", "I", true)
def tyX11 : Nat → FieldType := fun k => match k with
  | 0 => .object "java/lang/Throwable"
  | 1 => .array (.object "java/lang/StackTraceElement")
  | 2 => .object "java/util/List"
  | 3 => .object "java/lang/String"
  | 4 => .object "java/lang/Object"
  | 5 => .int
  | 6 => .int
  | _ => .int
abbrev wsX110 : List Cond := u_ws RX11 TX11 8
theorem nmX11 : ∀ a, a < 8 → ∀ b, b < 8 → a ≠ b → (TX11 a).2.1 ≠ (TX11 b).2.1 := by decide +kernel
theorem tyX11_ok : ∀ k, k < 8 → parseFieldDescriptor (TX11 k).2.2.1 = some (tyX11 k) := by decide +kernel
theorem in_X11 : ∀ w ∈ wsX110, w ∈ lw_all := lw_in wsX110 [1076, 1077, 1078, 1079, 1080, 1093, 1089, 1091] (by decide +kernel) (by decide +kernel)
def RX12 : String := "SpanRuler$Version"
def TX12 : u_T := fun k => match k with
  | 0 => ("SpanRuler$Version", "numbers", "[I", true)
  | _ => ("SpanRuler$Version", "colours", "[I", true)
def tyX12 : Nat → FieldType := fun k => match k with
  | 0 => .array .int
  | _ => .array .int
abbrev wsX120 : List Cond := u_ws RX12 TX12 2
theorem nmX12 : ∀ a, a < 2 → ∀ b, b < 2 → a ≠ b → (TX12 a).2.1 ≠ (TX12 b).2.1 := by decide +kernel
theorem tyX12_ok : ∀ k, k < 2 → parseFieldDescriptor (TX12 k).2.2.1 = some (tyX12 k) := by decide +kernel
theorem in_X12 : ∀ w ∈ wsX120, w ∈ lw_all := lw_in wsX120 [1485, 1487] (by decide +kernel) (by decide +kernel)
def RX13 : String := "SpanRuler$Parser"
def TX13 : u_T := fun k => match k with
  | 0 => ("SpanRuler$Parser", "text", "[C", true)
  | 1 => ("SpanRuler$Parser", "length", "I", true)
  | 2 => ("SpanRuler$Parser", "commands", "Ljava/util/ArrayList;", true)
  | _ => ("SpanRuler$Parser", "at", "I", false)
def tyX13 : Nat → FieldType := fun k => match k with
  | 0 => .array .char
  | 1 => .int
  | 2 => .object "java/util/ArrayList"
  | _ => .int
abbrev wsX130 : List Cond := u_ws RX13 TX13 4
theorem nmX13 : ∀ a, a < 4 → ∀ b, b < 4 → a ≠ b → (TX13 a).2.1 ≠ (TX13 b).2.1 := by decide +kernel
theorem tyX13_ok : ∀ k, k < 4 → parseFieldDescriptor (TX13 k).2.2.1 = some (tyX13 k) := by decide +kernel
theorem in_X13 : ∀ w ∈ wsX130, w ∈ lw_all := lw_in wsX130 [1697, 1699, 1701, 1703] (by decide +kernel) (by decide +kernel)
def RX14 : String := "SpanRuler$BadText"
def TX14 : u_T := fun k => match k with
  | 0 => ("java/lang/Throwable", "cause", "Ljava/lang/Throwable;", false)
  | 1 => ("java/lang/Throwable", "stackTrace", "[Ljava/lang/StackTraceElement;", false)
  | 2 => ("java/lang/Throwable", "suppressedExceptions", "Ljava/util/List;", false)
  | 3 => ("java/lang/Throwable", "detailMessage", "Ljava/lang/String;", false)
  | 4 => ("java/lang/Throwable", "backtrace", "Ljava/lang/Object;", false)
  | 5 => ("java/lang/Throwable", "depth", "I", false)
  | _ => ("SpanRuler$BadText", "position", "I", true)
def tyX14 : Nat → FieldType := fun k => match k with
  | 0 => .object "java/lang/Throwable"
  | 1 => .array (.object "java/lang/StackTraceElement")
  | 2 => .object "java/util/List"
  | 3 => .object "java/lang/String"
  | 4 => .object "java/lang/Object"
  | 5 => .int
  | _ => .int
abbrev wsX140 : List Cond := u_ws RX14 TX14 7
theorem nmX14 : ∀ a, a < 7 → ∀ b, b < 7 → a ≠ b → (TX14 a).2.1 ≠ (TX14 b).2.1 := by decide +kernel
theorem tyX14_ok : ∀ k, k < 7 → parseFieldDescriptor (TX14 k).2.2.1 = some (tyX14 k) := by decide +kernel
theorem in_X14 : ∀ w ∈ wsX140, w ∈ lw_all := lw_in wsX140 [2034, 2035, 2036, 2037, 2038, 2047, 2045] (by decide +kernel) (by decide +kernel)
def RX15 : String := "SpanRuler$Command"
def TX15 : u_T := fun k => match k with
  | 0 => ("SpanRuler$Command", "word", "Ljava/lang/String;", true)
  | 1 => ("SpanRuler$Command", "from", "I", true)
  | 2 => ("SpanRuler$Command", "to", "I", true)
  | _ => ("SpanRuler$Command", "number", "I", true)
def tyX15 : Nat → FieldType := fun k => match k with
  | 0 => .object "java/lang/String"
  | 1 => .int
  | 2 => .int
  | _ => .int
abbrev wsX150 : List Cond := u_ws RX15 TX15 4
theorem nmX15 : ∀ a, a < 4 → ∀ b, b < 4 → a ≠ b → (TX15 a).2.1 ≠ (TX15 b).2.1 := by decide +kernel
theorem tyX15_ok : ∀ k, k < 4 → parseFieldDescriptor (TX15 k).2.2.1 = some (tyX15 k) := by decide +kernel
theorem in_X15 : ∀ w ∈ wsX150, w ∈ lw_all := lw_in wsX150 [2134, 2136, 2138, 2140] (by decide +kernel) (by decide +kernel)
def RX16 : String := "SpanRuler$Kind$1"
def RX17 : String := "SpanRuler$Kind$2"
def RX18 : String := "SpanRuler$Kind$3"
def RJ0 : String := "java/util/AbstractCollection"
def RJ1 : String := "java/util/AbstractList"
def RJ2 : String := "java/util/ArrayList"
def TJ2 : u_T := fun k => match k with
  | 0 => ("java/util/AbstractList", "modCount", "I", false)
  | 1 => ("java/util/ArrayList", "elementData", "[Ljava/lang/Object;", false)
  | _ => ("java/util/ArrayList", "size", "I", false)
def tyJ2 : Nat → FieldType := fun k => match k with
  | 0 => .int
  | 1 => .array (.object "java/lang/Object")
  | _ => .int
abbrev wsJ20 : List Cond := u_ws RJ2 TJ2 3
theorem nmJ2 : ∀ a, a < 3 → ∀ b, b < 3 → a ≠ b → (TJ2 a).2.1 ≠ (TJ2 b).2.1 := by decide +kernel
theorem tyJ2_ok : ∀ k, k < 3 → parseFieldDescriptor (TJ2 k).2.2.1 = some (tyJ2 k) := by decide +kernel
theorem in_J2 : ∀ w ∈ wsJ20, w ∈ lw_all := lw_in wsJ20 [239, 235, 237] (by decide +kernel) (by decide +kernel)
def RJ3 : String := "java/lang/AbstractStringBuilder"
def RJ4 : String := "java/lang/StringBuilder"
def TJ4 : u_T := fun k => match k with
  | 0 => ("java/lang/AbstractStringBuilder", "value", "[B", false)
  | 1 => ("java/lang/AbstractStringBuilder", "coder", "B", false)
  | 2 => ("java/lang/AbstractStringBuilder", "maybeLatin1", "Z", false)
  | _ => ("java/lang/AbstractStringBuilder", "count", "I", false)
def tyJ4 : Nat → FieldType := fun k => match k with
  | 0 => .array .byte
  | 1 => .byte
  | 2 => .boolean
  | _ => .int
abbrev wsJ40 : List Cond := u_ws RJ4 TJ4 4
theorem nmJ4 : ∀ a, a < 4 → ∀ b, b < 4 → a ≠ b → (TJ4 a).2.1 ≠ (TJ4 b).2.1 := by decide +kernel
theorem tyJ4_ok : ∀ k, k < 4 → parseFieldDescriptor (TJ4 k).2.2.1 = some (tyJ4 k) := by decide +kernel
theorem in_J4 : ∀ w ∈ wsJ40, w ∈ lw_all := lw_in wsJ40 [308, 310, 312, 314] (by decide +kernel) (by decide +kernel)
def RJ5 : String := "java/lang/String"
def TJ5 : u_T := fun k => match k with
  | 0 => ("java/lang/String", "value", "[B", true)
  | 1 => ("java/lang/String", "coder", "B", true)
  | 2 => ("java/lang/String", "hash", "I", false)
  | _ => ("java/lang/String", "hashIsZero", "Z", false)
def tyJ5 : Nat → FieldType := fun k => match k with
  | 0 => .array .byte
  | 1 => .byte
  | 2 => .int
  | _ => .boolean
abbrev wsJ50 : List Cond := u_ws RJ5 TJ5 4
theorem nmJ5 : ∀ a, a < 4 → ∀ b, b < 4 → a ≠ b → (TJ5 a).2.1 ≠ (TJ5 b).2.1 := by decide +kernel
theorem tyJ5_ok : ∀ k, k < 4 → parseFieldDescriptor (TJ5 k).2.2.1 = some (tyJ5 k) := by decide +kernel
theorem in_J5 : ∀ w ∈ wsJ50, w ∈ lw_all := lw_in wsJ50 [788, 790, 792, 794] (by decide +kernel) (by decide +kernel)
def RJ6 : String := "java/lang/StringUTF16"
def RJ7 : String := "java/lang/Enum"
def RJ8 : String := "java/lang/Throwable"
def TJ8 : u_T := fun k => match k with
  | 0 => ("java/lang/Throwable", "cause", "Ljava/lang/Throwable;", false)
  | 1 => ("java/lang/Throwable", "stackTrace", "[Ljava/lang/StackTraceElement;", false)
  | 2 => ("java/lang/Throwable", "suppressedExceptions", "Ljava/util/List;", false)
  | 3 => ("java/lang/Throwable", "detailMessage", "Ljava/lang/String;", false)
  | _ => ("java/lang/Throwable", "backtrace", "Ljava/lang/Object;", false)
def tyJ8 : Nat → FieldType := fun k => match k with
  | 0 => .object "java/lang/Throwable"
  | 1 => .array (.object "java/lang/StackTraceElement")
  | 2 => .object "java/util/List"
  | 3 => .object "java/lang/String"
  | _ => .object "java/lang/Object"
abbrev wsJ80 : List Cond := u_ws RJ8 TJ8 5
theorem nmJ8 : ∀ a, a < 5 → ∀ b, b < 5 → a ≠ b → (TJ8 a).2.1 ≠ (TJ8 b).2.1 := by decide +kernel
theorem tyJ8_ok : ∀ k, k < 5 → parseFieldDescriptor (TJ8 k).2.2.1 = some (tyJ8 k) := by decide +kernel
theorem in_J8 : ∀ w ∈ wsJ80, w ∈ lw_all := lw_in wsJ80 [444, 446, 448, 450, 452] (by decide +kernel) (by decide +kernel)
def RJ9 : String := "java/lang/Exception"
def RJ10 : String := "java/lang/RuntimeException"
def RJ11 : String := "java/lang/IllegalArgumentException"
def TJ11 : u_T := fun k => match k with
  | 0 => ("java/lang/Throwable", "cause", "Ljava/lang/Throwable;", false)
  | 1 => ("java/lang/Throwable", "stackTrace", "[Ljava/lang/StackTraceElement;", false)
  | 2 => ("java/lang/Throwable", "suppressedExceptions", "Ljava/util/List;", false)
  | 3 => ("java/lang/Throwable", "detailMessage", "Ljava/lang/String;", false)
  | 4 => ("java/lang/Throwable", "backtrace", "Ljava/lang/Object;", false)
  | _ => ("java/lang/Throwable", "depth", "I", false)
def tyJ11 : Nat → FieldType := fun k => match k with
  | 0 => .object "java/lang/Throwable"
  | 1 => .array (.object "java/lang/StackTraceElement")
  | 2 => .object "java/util/List"
  | 3 => .object "java/lang/String"
  | 4 => .object "java/lang/Object"
  | _ => .int
abbrev wsJ110 : List Cond := u_ws RJ11 TJ11 6
theorem nmJ11 : ∀ a, a < 6 → ∀ b, b < 6 → a ≠ b → (TJ11 a).2.1 ≠ (TJ11 b).2.1 := by decide +kernel
theorem tyJ11_ok : ∀ k, k < 6 → parseFieldDescriptor (TJ11 k).2.2.1 = some (tyJ11 k) := by decide +kernel
theorem in_J11 : ∀ w ∈ wsJ110, w ∈ lw_all := lw_in wsJ110 [746, 747, 748, 749, 750, 769] (by decide +kernel) (by decide +kernel)
def RJ12 : String := "java/util/ArrayList$Itr"
def TJ12 : u_T := fun k => match k with
  | 0 => ("java/util/ArrayList$Itr", "cursor", "I", false)
  | 1 => ("java/util/ArrayList$Itr", "lastRet", "I", false)
  | 2 => ("java/util/ArrayList$Itr", "expectedModCount", "I", false)
  | _ => ("java/util/ArrayList$Itr", "this$0", "Ljava/util/ArrayList;", true)
def tyJ12 : Nat → FieldType := fun k => match k with
  | 0 => .int
  | 1 => .int
  | 2 => .int
  | _ => .object "java/util/ArrayList"
abbrev wsJ120 : List Cond := u_ws RJ12 TJ12 4
theorem nmJ12 : ∀ a, a < 4 → ∀ b, b < 4 → a ≠ b → (TJ12 a).2.1 ≠ (TJ12 b).2.1 := by decide +kernel
theorem tyJ12_ok : ∀ k, k < 4 → parseFieldDescriptor (TJ12 k).2.2.1 = some (tyJ12 k) := by decide +kernel
theorem in_J12 : ∀ w ∈ wsJ120, w ∈ lw_all := lw_in wsJ120 [394, 396, 398, 400] (by decide +kernel) (by decide +kernel)
def RJ13 : String := "java/util/NoSuchElementException"
def TJ13 : u_T := fun k => match k with
  | 0 => ("java/lang/Throwable", "cause", "Ljava/lang/Throwable;", false)
  | 1 => ("java/lang/Throwable", "stackTrace", "[Ljava/lang/StackTraceElement;", false)
  | 2 => ("java/lang/Throwable", "suppressedExceptions", "Ljava/util/List;", false)
  | 3 => ("java/lang/Throwable", "detailMessage", "Ljava/lang/String;", false)
  | 4 => ("java/lang/Throwable", "backtrace", "Ljava/lang/Object;", false)
  | _ => ("java/lang/Throwable", "depth", "I", false)
def tyJ13 : Nat → FieldType := fun k => match k with
  | 0 => .object "java/lang/Throwable"
  | 1 => .array (.object "java/lang/StackTraceElement")
  | 2 => .object "java/util/List"
  | 3 => .object "java/lang/String"
  | 4 => .object "java/lang/Object"
  | _ => .int
abbrev wsJ130 : List Cond := u_ws RJ13 TJ13 6
theorem nmJ13 : ∀ a, a < 6 → ∀ b, b < 6 → a ≠ b → (TJ13 a).2.1 ≠ (TJ13 b).2.1 := by decide +kernel
theorem tyJ13_ok : ∀ k, k < 6 → parseFieldDescriptor (TJ13 k).2.2.1 = some (tyJ13 k) := by decide +kernel
theorem in_J13 : ∀ w ∈ wsJ130, w ∈ lw_all := lw_in wsJ130 [443, 445, 447, 449, 451, 498] (by decide +kernel) (by decide +kernel)
def RJ14 : String := "java/util/Objects"
def RJ15 : String := "jdk/internal/util/Preconditions"
def RJ16 : String := "java/util/ImmutableCollections"
def RJ17 : String := "java/lang/IndexOutOfBoundsException"
def TJ17 : u_T := fun k => match k with
  | 0 => ("java/lang/Throwable", "cause", "Ljava/lang/Throwable;", false)
  | 1 => ("java/lang/Throwable", "stackTrace", "[Ljava/lang/StackTraceElement;", false)
  | 2 => ("java/lang/Throwable", "suppressedExceptions", "Ljava/util/List;", false)
  | 3 => ("java/lang/Throwable", "detailMessage", "Ljava/lang/String;", false)
  | 4 => ("java/lang/Throwable", "backtrace", "Ljava/lang/Object;", false)
  | _ => ("java/lang/Throwable", "depth", "I", false)
def tyJ17 : Nat → FieldType := fun k => match k with
  | 0 => .object "java/lang/Throwable"
  | 1 => .array (.object "java/lang/StackTraceElement")
  | 2 => .object "java/util/List"
  | 3 => .object "java/lang/String"
  | 4 => .object "java/lang/Object"
  | _ => .int
abbrev wsJ170 : List Cond := u_ws RJ17 TJ17 6
theorem nmJ17 : ∀ a, a < 6 → ∀ b, b < 6 → a ≠ b → (TJ17 a).2.1 ≠ (TJ17 b).2.1 := by decide +kernel
theorem tyJ17_ok : ∀ k, k < 6 → parseFieldDescriptor (TJ17 k).2.2.1 = some (tyJ17 k) := by decide +kernel
theorem in_J17 : ∀ w ∈ wsJ170, w ∈ lw_all := lw_in wsJ170 [545, 546, 547, 548, 549, 801] (by decide +kernel) (by decide +kernel)
def RJ18 : String := "jdk/internal/util/ArraysSupport"
def RJ19 : String := "java/lang/Math"
def RJ20 : String := "java/util/Arrays"
def RJ21 : String := "java/lang/StringLatin1"
def RJ22 : String := "java/lang/Integer"
def RJ23 : String := "java/lang/UnsupportedOperationException"
def TJ23 : u_T := fun k => match k with
  | 0 => ("java/lang/Throwable", "cause", "Ljava/lang/Throwable;", false)
  | 1 => ("java/lang/Throwable", "stackTrace", "[Ljava/lang/StackTraceElement;", false)
  | 2 => ("java/lang/Throwable", "suppressedExceptions", "Ljava/util/List;", false)
  | 3 => ("java/lang/Throwable", "detailMessage", "Ljava/lang/String;", false)
  | 4 => ("java/lang/Throwable", "backtrace", "Ljava/lang/Object;", false)
  | _ => ("java/lang/Throwable", "depth", "I", false)
def tyJ23 : Nat → FieldType := fun k => match k with
  | 0 => .object "java/lang/Throwable"
  | 1 => .array (.object "java/lang/StackTraceElement")
  | 2 => .object "java/util/List"
  | 3 => .object "java/lang/String"
  | 4 => .object "java/lang/Object"
  | _ => .int
abbrev wsJ230 : List Cond := u_ws RJ23 TJ23 6
theorem nmJ23 : ∀ a, a < 6 → ∀ b, b < 6 → a ≠ b → (TJ23 a).2.1 ≠ (TJ23 b).2.1 := by decide +kernel
theorem tyJ23_ok : ∀ k, k < 6 → parseFieldDescriptor (TJ23 k).2.2.1 = some (tyJ23 k) := by decide +kernel
theorem in_J23 : ∀ w ∈ wsJ230, w ∈ lw_all := lw_in wsJ230 [1140, 1141, 1142, 1143, 1144, 1149] (by decide +kernel) (by decide +kernel)
def RJ24 : String := "java/lang/ArrayIndexOutOfBoundsException"
def TJ24 : u_T := fun k => match k with
  | 0 => ("java/lang/Throwable", "backtrace", "Ljava/lang/Object;", false)
  | 1 => ("java/lang/Throwable", "detailMessage", "Ljava/lang/String;", false)
  | 2 => ("java/lang/Throwable", "cause", "Ljava/lang/Throwable;", false)
  | 3 => ("java/lang/Throwable", "stackTrace", "[Ljava/lang/StackTraceElement;", false)
  | 4 => ("java/lang/Throwable", "depth", "I", false)
  | _ => ("java/lang/Throwable", "suppressedExceptions", "Ljava/util/List;", false)
def tyJ24 : Nat → FieldType := fun k => match k with
  | 0 => .object "java/lang/Object"
  | 1 => .object "java/lang/String"
  | 2 => .object "java/lang/Throwable"
  | 3 => .array (.object "java/lang/StackTraceElement")
  | 4 => .int
  | _ => .object "java/util/List"
abbrev wsJ240 : List Cond := u_ws RJ24 TJ24 6
theorem nmJ24 : ∀ a, a < 6 → ∀ b, b < 6 → a ≠ b → (TJ24 a).2.1 ≠ (TJ24 b).2.1 := by decide +kernel
theorem tyJ24_ok : ∀ k, k < 6 → parseFieldDescriptor (TJ24 k).2.2.1 = some (tyJ24 k) := by decide +kernel
theorem in_J24 : ∀ w ∈ wsJ240, w ∈ lw_all := lw_in wsJ240 [1221, 1222, 1223, 1224, 1225, 1226] (by decide +kernel) (by decide +kernel)
def RJ25 : String := "java/lang/StringIndexOutOfBoundsException"
def TJ25 : u_T := fun k => match k with
  | 0 => ("java/lang/Throwable", "backtrace", "Ljava/lang/Object;", false)
  | 1 => ("java/lang/Throwable", "detailMessage", "Ljava/lang/String;", false)
  | 2 => ("java/lang/Throwable", "cause", "Ljava/lang/Throwable;", false)
  | 3 => ("java/lang/Throwable", "stackTrace", "[Ljava/lang/StackTraceElement;", false)
  | 4 => ("java/lang/Throwable", "depth", "I", false)
  | _ => ("java/lang/Throwable", "suppressedExceptions", "Ljava/util/List;", false)
def tyJ25 : Nat → FieldType := fun k => match k with
  | 0 => .object "java/lang/Object"
  | 1 => .object "java/lang/String"
  | 2 => .object "java/lang/Throwable"
  | 3 => .array (.object "java/lang/StackTraceElement")
  | 4 => .int
  | _ => .object "java/util/List"
abbrev wsJ250 : List Cond := u_ws RJ25 TJ25 6
theorem nmJ25 : ∀ a, a < 6 → ∀ b, b < 6 → a ≠ b → (TJ25 a).2.1 ≠ (TJ25 b).2.1 := by decide +kernel
theorem tyJ25_ok : ∀ k, k < 6 → parseFieldDescriptor (TJ25 k).2.2.1 = some (tyJ25 k) := by decide +kernel
theorem in_J25 : ∀ w ∈ wsJ250, w ∈ lw_all := lw_in wsJ250 [1563, 1564, 1565, 1566, 1567, 1568] (by decide +kernel) (by decide +kernel)
def RJ26 : String := "java/lang/IllegalStateException"
def TJ26 : u_T := fun k => match k with
  | 0 => ("java/lang/Throwable", "cause", "Ljava/lang/Throwable;", false)
  | 1 => ("java/lang/Throwable", "stackTrace", "[Ljava/lang/StackTraceElement;", false)
  | 2 => ("java/lang/Throwable", "suppressedExceptions", "Ljava/util/List;", false)
  | 3 => ("java/lang/Throwable", "detailMessage", "Ljava/lang/String;", false)
  | 4 => ("java/lang/Throwable", "backtrace", "Ljava/lang/Object;", false)
  | _ => ("java/lang/Throwable", "depth", "I", false)
def tyJ26 : Nat → FieldType := fun k => match k with
  | 0 => .object "java/lang/Throwable"
  | 1 => .array (.object "java/lang/StackTraceElement")
  | 2 => .object "java/util/List"
  | 3 => .object "java/lang/String"
  | 4 => .object "java/lang/Object"
  | _ => .int
abbrev wsJ260 : List Cond := u_ws RJ26 TJ26 6
theorem nmJ26 : ∀ a, a < 6 → ∀ b, b < 6 → a ≠ b → (TJ26 a).2.1 ≠ (TJ26 b).2.1 := by decide +kernel
theorem tyJ26_ok : ∀ k, k < 6 → parseFieldDescriptor (TJ26 k).2.2.1 = some (tyJ26 k) := by decide +kernel
theorem in_J26 : ∀ w ∈ wsJ260, w ∈ lw_all := lw_in wsJ260 [1665, 1666, 1667, 1668, 1669, 1674] (by decide +kernel) (by decide +kernel)
def RJ27 : String := "java/util/List"
def RJ28 : String := "java/util/ImmutableCollections$AbstractImmutableCollection"
def RJ29 : String := "java/util/ImmutableCollections$AbstractImmutableList"
def RJ30 : String := "java/util/ImmutableCollections$List12"
def TJ30 : u_T := fun k => match k with
  | 0 => ("java/util/ImmutableCollections$List12", "e0", "Ljava/lang/Object;", true)
  | _ => ("java/util/ImmutableCollections$List12", "e1", "Ljava/lang/Object;", true)
def tyJ30 : Nat → FieldType := fun k => match k with
  | 0 => .object "java/lang/Object"
  | _ => .object "java/lang/Object"
abbrev wsJ300 : List Cond := u_ws RJ30 TJ30 2
theorem nmJ30 : ∀ a, a < 2 → ∀ b, b < 2 → a ≠ b → (TJ30 a).2.1 ≠ (TJ30 b).2.1 := by decide +kernel
theorem tyJ30_ok : ∀ k, k < 2 → parseFieldDescriptor (TJ30 k).2.2.1 = some (tyJ30 k) := by decide +kernel
theorem in_J30 : ∀ w ∈ wsJ300, w ∈ lw_all := lw_in wsJ300 [1751, 1753] (by decide +kernel) (by decide +kernel)
def RJ31 : String := "java/util/ImmutableCollections$ListN"
def TJ31 : u_T := fun k => match k with
  | 0 => ("java/util/ImmutableCollections$ListN", "elements", "[Ljava/lang/Object;", true)
  | _ => ("java/util/ImmutableCollections$ListN", "allowNulls", "Z", true)
def tyJ31 : Nat → FieldType := fun k => match k with
  | 0 => .array (.object "java/lang/Object")
  | _ => .boolean
abbrev wsJ310 : List Cond := u_ws RJ31 TJ31 2
theorem nmJ31 : ∀ a, a < 2 → ∀ b, b < 2 → a ≠ b → (TJ31 a).2.1 ≠ (TJ31 b).2.1 := by decide +kernel
theorem tyJ31_ok : ∀ k, k < 2 → parseFieldDescriptor (TJ31 k).2.2.1 = some (tyJ31 k) := by decide +kernel
theorem in_J31 : ∀ w ∈ wsJ310, w ∈ lw_all := lw_in wsJ310 [1767, 1769] (by decide +kernel) (by decide +kernel)
def RJ32 : String := "java/util/ImmutableCollections$ListItr"
def TJ32 : u_T := fun k => match k with
  | 0 => ("java/util/ImmutableCollections$ListItr", "list", "Ljava/util/List;", true)
  | 1 => ("java/util/ImmutableCollections$ListItr", "size", "I", true)
  | 2 => ("java/util/ImmutableCollections$ListItr", "isListIterator", "Z", true)
  | _ => ("java/util/ImmutableCollections$ListItr", "cursor", "I", false)
def tyJ32 : Nat → FieldType := fun k => match k with
  | 0 => .object "java/util/List"
  | 1 => .int
  | 2 => .boolean
  | _ => .int
abbrev wsJ320 : List Cond := u_ws RJ32 TJ32 4
theorem nmJ32 : ∀ a, a < 4 → ∀ b, b < 4 → a ≠ b → (TJ32 a).2.1 ≠ (TJ32 b).2.1 := by decide +kernel
theorem tyJ32_ok : ∀ k, k < 4 → parseFieldDescriptor (TJ32 k).2.2.1 = some (tyJ32 k) := by decide +kernel
theorem in_J32 : ∀ w ∈ wsJ320, w ∈ lw_all := lw_in wsJ320 [1900, 1902, 1904, 1906] (by decide +kernel) (by decide +kernel)
def RJ33 : String := "jdk/internal/misc/Unsafe"
def RJ34 : String := "java/lang/Long"
def RJ35 : String := "java/lang/Character"
def RJ36 : String := "java/lang/Object"
def RJ37 : String := "java/lang/System$2"
/-- all the classes of which objects are told of: by their places -/
def gcl : List vw_C := [(RX1, TX1, 8), (RX2, TX2, 10), (RX4, TX4, 5), (RX6, TX6, 8), (RX7, TX7, 2), (RX8, TX8, 21), (RX10, TX10, 5), (RX11, TX11, 8), (RX12, TX12, 2), (RX13, TX13, 4), (RX14, TX14, 7), (RX15, TX15, 4), (RJ2, TJ2, 3), (RJ12, TJ12, 4), (RJ4, TJ4, 4), (RJ5, TJ5, 4), (RJ31, TJ31, 2), (RJ32, TJ32, 4), (RJ11, TX7, 0), (RJ17, TX7, 0), (RJ26, TX7, 0), (RJ13, TX7, 0), (RJ23, TX7, 0)]
theorem gc_X1 : gcl[0]? = some (RX1, TX1, 8) := rfl
theorem gc_X2 : gcl[1]? = some (RX2, TX2, 10) := rfl
theorem gc_X4 : gcl[2]? = some (RX4, TX4, 5) := rfl
theorem gc_X6 : gcl[3]? = some (RX6, TX6, 8) := rfl
theorem gc_X7 : gcl[4]? = some (RX7, TX7, 2) := rfl
theorem gc_X8 : gcl[5]? = some (RX8, TX8, 21) := rfl
theorem gc_X10 : gcl[6]? = some (RX10, TX10, 5) := rfl
theorem gc_X11 : gcl[7]? = some (RX11, TX11, 8) := rfl
theorem gc_X12 : gcl[8]? = some (RX12, TX12, 2) := rfl
theorem gc_X13 : gcl[9]? = some (RX13, TX13, 4) := rfl
theorem gc_X14 : gcl[10]? = some (RX14, TX14, 7) := rfl
theorem gc_X15 : gcl[11]? = some (RX15, TX15, 4) := rfl
theorem gc_J2 : gcl[12]? = some (RJ2, TJ2, 3) := rfl
theorem gc_J12 : gcl[13]? = some (RJ12, TJ12, 4) := rfl
theorem gc_J4 : gcl[14]? = some (RJ4, TJ4, 4) := rfl
theorem gc_J5 : gcl[15]? = some (RJ5, TJ5, 4) := rfl
theorem gc_J31 : gcl[16]? = some (RJ31, TJ31, 2) := rfl
theorem gc_J32 : gcl[17]? = some (RJ32, TJ32, 4) := rfl
theorem gc_J11 : gcl[18]? = some (RJ11, TX7, 0) := rfl
theorem gc_J17 : gcl[19]? = some (RJ17, TX7, 0) := rfl
theorem gc_J26 : gcl[20]? = some (RJ26, TX7, 0) := rfl
theorem gc_J13 : gcl[21]? = some (RJ13, TX7, 0) := rfl
theorem gc_J23 : gcl[22]? = some (RJ23, TX7, 0) := rfl
