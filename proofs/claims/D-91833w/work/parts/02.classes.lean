set_option maxRecDepth 100000
/-! NonsenseRows -/
def RX0 : String := "NonsenseRows"
def TX0 : u_T := fun k => match k with
  | 0 => ("NonsenseRows", "slots", "[LNonsenseRows$Slot;", true)
  | 1 => ("NonsenseRows", "now", "LNonsenseRows$State;", true)
  | 2 => ("NonsenseRows", "images", "[LNonsenseRows$State;", true)
  | 3 => ("NonsenseRows", "paper", "LNonsenseRows$Head;", true)
  | 4 => ("NonsenseRows", "tape", "[B", true)
  | 5 => ("NonsenseRows", "taped", "I", false)
  | 6 => ("NonsenseRows", "faultKind", "I", false)
  | 7 => ("NonsenseRows", "faultPlace", "I", false)
  | 8 => ("NonsenseRows", "plan", "[I", true)
  | 9 => ("NonsenseRows", "bestPlan", "[I", true)
  | _ => ("NonsenseRows", "bestLeft", "I", false)
def tyX0 : Nat → FieldType := fun k => match k with
  | 0 => .array (.object "NonsenseRows$Slot")
  | 1 => .object "NonsenseRows$State"
  | 2 => .array (.object "NonsenseRows$State")
  | 3 => .object "NonsenseRows$Head"
  | 4 => .array .byte
  | 5 => .int
  | 6 => .int
  | 7 => .int
  | 8 => .array .int
  | 9 => .array .int
  | _ => .int
abbrev wsX00 : List Cond := u_ws RX0 TX0 11
theorem nmX0 : ∀ a, a < 11 → ∀ b, b < 11 → a ≠ b → (TX0 a).2.1 ≠ (TX0 b).2.1 := by decide +kernel
theorem tyX0_ok : ∀ k, k < 11 → parseFieldDescriptor (TX0 k).2.2.1 = some (tyX0 k) := by decide +kernel
theorem in_X0 : ∀ w ∈ wsX00, w ∈ lw_all := lw_in wsX00 [529, 531, 533, 535, 537, 539, 541, 543, 545, 547, 549] (by decide +kernel) (by decide +kernel)
/-! NonsenseRows$State -/
def RX1 : String := "NonsenseRows$State"
def TX1 : u_T := fun k => match k with
  | 0 => ("NonsenseRows$State", "text", "LNonsenseRows$Text;", false)
  | 1 => ("NonsenseRows$State", "rows", "Ljava/util/List;", true)
  | 2 => ("NonsenseRows$State", "book", "Ljava/util/List;", true)
  | 3 => ("NonsenseRows$State", "used", "[I", true)
  | 4 => ("NonsenseRows$State", "head", "LNonsenseRows$Head;", true)
  | 5 => ("NonsenseRows$State", "isWhole", "Z", false)
  | _ => ("NonsenseRows$State", "isMade", "Z", false)
def tyX1 : Nat → FieldType := fun k => match k with
  | 0 => .object "NonsenseRows$Text"
  | 1 => .object "java/util/List"
  | 2 => .object "java/util/List"
  | 3 => .array .int
  | 4 => .object "NonsenseRows$Head"
  | 5 => .boolean
  | _ => .boolean
abbrev wsX10 : List Cond := u_ws RX1 TX1 7
theorem nmX1 : ∀ a, a < 7 → ∀ b, b < 7 → a ≠ b → (TX1 a).2.1 ≠ (TX1 b).2.1 := by decide +kernel
theorem tyX1_ok : ∀ k, k < 7 → parseFieldDescriptor (TX1 k).2.2.1 = some (tyX1 k) := by decide +kernel
theorem in_X1 : ∀ w ∈ wsX10, w ∈ lw_all := lw_in wsX10 [491, 493, 495, 497, 499, 501, 503] (by decide +kernel) (by decide +kernel)
/-! NonsenseRows$Text -/
def RX2 : String := "NonsenseRows$Text"
def TX2 : u_T := fun k => match k with
  | 0 => ("NonsenseRows$Text", "easy", "[I", true)
  | 1 => ("NonsenseRows$Text", "leans", "[I", true)
  | 2 => ("NonsenseRows$Text", "laws", "[[LNonsenseRows$Sum;", true)
  | 3 => ("NonsenseRows$Text", "isLeaning", "[Z", true)
  | 4 => ("NonsenseRows$Text", "things", "I", false)
  | 5 => ("NonsenseRows$Text", "hold", "I", false)
  | 6 => ("NonsenseRows$Text", "lines", "I", false)
  | _ => ("NonsenseRows$Text", "isHeld", "Z", false)
def tyX2 : Nat → FieldType := fun k => match k with
  | 0 => .array .int
  | 1 => .array .int
  | 2 => .array (.array (.object "NonsenseRows$Sum"))
  | 3 => .array .boolean
  | 4 => .int
  | 5 => .int
  | 6 => .int
  | _ => .boolean
abbrev wsX20 : List Cond := u_ws RX2 TX2 8
theorem nmX2 : ∀ a, a < 8 → ∀ b, b < 8 → a ≠ b → (TX2 a).2.1 ≠ (TX2 b).2.1 := by decide +kernel
theorem tyX2_ok : ∀ k, k < 8 → parseFieldDescriptor (TX2 k).2.2.1 = some (tyX2 k) := by decide +kernel
theorem in_X2 : ∀ w ∈ wsX20, w ∈ lw_all := lw_in wsX20 [367, 369, 371, 373, 375, 377, 379, 381] (by decide +kernel) (by decide +kernel)
/-! java/util/AbstractCollection -/
def RJ0 : String := "java/util/AbstractCollection"
/-! java/util/AbstractList -/
def RJ1 : String := "java/util/AbstractList"
/-! java/util/ArrayList -/
def RJ2 : String := "java/util/ArrayList"
def TJ2 : u_T := fun k => match k with
  | 0 => ("java/util/AbstractList", "modCount", "I", false)
  | 1 => ("java/util/ArrayList", "elementData", "[Ljava/lang/Object;", false)
  | _ => ("java/util/ArrayList", "size", "I", false)
def tyJ2 : Nat → FieldType := fun k => match k with
  | 0 => .int
  | 1 => .array (.object "java/lang/Object")
  | _ => .int
abbrev wsJ20 : List Cond := u_ws RJ2 TJ2 3
theorem nmJ2 : ∀ a, a < 3 → ∀ b, b < 3 → a ≠ b → (TJ2 a).2.1 ≠ (TJ2 b).2.1 := by decide +kernel
theorem tyJ2_ok : ∀ k, k < 3 → parseFieldDescriptor (TJ2 k).2.2.1 = some (tyJ2 k) := by decide +kernel
theorem in_J2 : ∀ w ∈ wsJ20, w ∈ lw_all := lw_in wsJ20 [410, 406, 408] (by decide +kernel) (by decide +kernel)
/-! NonsenseRows$Head -/
def RX3 : String := "NonsenseRows$Head"
def TX3 : u_T := fun k => match k with
  | 0 => ("NonsenseRows$Head", "links", "[[[I", true)
  | 1 => ("NonsenseRows$Head", "asked", "LNonsenseRows$Asked;", true)
  | 2 => ("NonsenseRows$Head", "text", "LNonsenseRows$Text;", false)
  | 3 => ("NonsenseRows$Head", "hour", "I", false)
  | _ => ("NonsenseRows$Head", "tired", "I", false)
def tyX3 : Nat → FieldType := fun k => match k with
  | 0 => .array (.array (.array .int))
  | 1 => .object "NonsenseRows$Asked"
  | 2 => .object "NonsenseRows$Text"
  | 3 => .int
  | _ => .int
abbrev wsX30 : List Cond := u_ws RX3 TX3 5
theorem nmX3 : ∀ a, a < 5 → ∀ b, b < 5 → a ≠ b → (TX3 a).2.1 ≠ (TX3 b).2.1 := by decide +kernel
theorem tyX3_ok : ∀ k, k < 5 → parseFieldDescriptor (TX3 k).2.2.1 = some (tyX3 k) := by decide +kernel
theorem in_X3 : ∀ w ∈ wsX30, w ∈ lw_all := lw_in wsX30 [458, 460, 462, 464, 466] (by decide +kernel) (by decide +kernel)
/-! NonsenseRows$Asked -/
def RX4 : String := "NonsenseRows$Asked"
def TX4 : u_T := fun k => match k with
  | 0 => ("NonsenseRows$Asked", "has", "I", false)
  | 1 => ("NonsenseRows$Asked", "easy", "I", false)
  | 2 => ("NonsenseRows$Asked", "tired", "I", false)
  | 3 => ("NonsenseRows$Asked", "hour", "I", false)
  | _ => ("NonsenseRows$Asked", "isBroken", "Z", false)
def tyX4 : Nat → FieldType := fun k => match k with
  | 0 => .int
  | 1 => .int
  | 2 => .int
  | 3 => .int
  | _ => .boolean
abbrev wsX40 : List Cond := u_ws RX4 TX4 5
theorem nmX4 : ∀ a, a < 5 → ∀ b, b < 5 → a ≠ b → (TX4 a).2.1 ≠ (TX4 b).2.1 := by decide +kernel
theorem tyX4_ok : ∀ k, k < 5 → parseFieldDescriptor (TX4 k).2.2.1 = some (tyX4 k) := by decide +kernel
theorem in_X4 : ∀ w ∈ wsX40, w ∈ lw_all := lw_in wsX40 [439, 441, 443, 445, 447] (by decide +kernel) (by decide +kernel)
/-! NonsenseRows$Slot -/
def RX5 : String := "NonsenseRows$Slot"
def TX5 : u_T := fun k => match k with
  | _ => ("NonsenseRows$Slot", "held", "Ljava/lang/Object;", false)
def tyX5 : Nat → FieldType := fun k => match k with
  | _ => .object "java/lang/Object"
abbrev wsX50 : List Cond := u_ws RX5 TX5 1
theorem nmX5 : ∀ a, a < 1 → ∀ b, b < 1 → a ≠ b → (TX5 a).2.1 ≠ (TX5 b).2.1 := by decide +kernel
theorem tyX5_ok : ∀ k, k < 1 → parseFieldDescriptor (TX5 k).2.2.1 = some (tyX5 k) := by decide +kernel
theorem in_X5 : ∀ w ∈ wsX50, w ∈ lw_all := lw_in wsX50 [515] (by decide +kernel) (by decide +kernel)
/-! NonsenseRowsModel -/
def RX6 : String := "NonsenseRowsModel"
def TX6 : u_T := fun k => match k with
  | 0 => ("NonsenseRowsModel", "thrown", "I", false)
  | 1 => ("NonsenseRowsModel", "world", "[I", true)
  | 2 => ("NonsenseRowsModel", "head", "[I", true)
  | 3 => ("NonsenseRowsModel", "sittings", "I", false)
  | 4 => ("NonsenseRowsModel", "lost", "I", false)
  | 5 => ("NonsenseRowsModel", "book", "[I", true)
  | 6 => ("NonsenseRowsModel", "imageWorld", "[I", true)
  | 7 => ("NonsenseRowsModel", "imageHead", "[I", true)
  | 8 => ("NonsenseRowsModel", "imageBook", "[I", true)
  | 9 => ("NonsenseRowsModel", "imageLost", "[I", true)
  | 10 => ("NonsenseRowsModel", "imageSittings", "[I", true)
  | 11 => ("NonsenseRowsModel", "tape", "[B", true)
  | 12 => ("NonsenseRowsModel", "taped", "I", false)
  | 13 => ("NonsenseRowsModel", "five", "[I", true)
  | 14 => ("NonsenseRowsModel", "size", "I", false)
  | 15 => ("NonsenseRowsModel", "at", "I", false)
  | 16 => ("NonsenseRowsModel", "from", "I", false)
  | 17 => ("NonsenseRowsModel", "token", "I", false)
  | 18 => ("NonsenseRowsModel", "value", "I", false)
  | 19 => ("NonsenseRowsModel", "faultKind", "I", false)
  | 20 => ("NonsenseRowsModel", "faultPlace", "I", false)
  | 21 => ("NonsenseRowsModel", "fresh", "[I", true)
  | 22 => ("NonsenseRowsModel", "holdTold", "Z", false)
  | 23 => ("NonsenseRowsModel", "leanTold", "[Z", true)
  | 24 => ("NonsenseRowsModel", "constantLaw", "I", false)
  | 25 => ("NonsenseRowsModel", "constant", "I", false)
  | 26 => ("NonsenseRowsModel", "copies", "[I", true)
  | 27 => ("NonsenseRowsModel", "copied", "I", false)
  | 28 => ("NonsenseRowsModel", "bestPlan", "I", false)
  | 29 => ("NonsenseRowsModel", "bestLeft", "I", false)
  | 30 => ("NonsenseRowsModel", "made", "[I", true)
  | 31 => ("NonsenseRowsModel", "savedWorld", "[I", true)
  | 32 => ("NonsenseRowsModel", "itsNeeds", "[I", true)
  | 33 => ("NonsenseRowsModel", "itsMany", "[I", true)
  | 34 => ("NonsenseRowsModel", "many", "[I", true)
  | 35 => ("NonsenseRowsModel", "width", "[I", true)
  | 36 => ("NonsenseRowsModel", "numbers", "[J", true)
  | _ => ("NonsenseRowsModel", "moving", "[J", true)
def tyX6 : Nat → FieldType := fun k => match k with
  | 0 => .int
  | 1 => .array .int
  | 2 => .array .int
  | 3 => .int
  | 4 => .int
  | 5 => .array .int
  | 6 => .array .int
  | 7 => .array .int
  | 8 => .array .int
  | 9 => .array .int
  | 10 => .array .int
  | 11 => .array .byte
  | 12 => .int
  | 13 => .array .int
  | 14 => .int
  | 15 => .int
  | 16 => .int
  | 17 => .int
  | 18 => .int
  | 19 => .int
  | 20 => .int
  | 21 => .array .int
  | 22 => .boolean
  | 23 => .array .boolean
  | 24 => .int
  | 25 => .int
  | 26 => .array .int
  | 27 => .int
  | 28 => .int
  | 29 => .int
  | 30 => .array .int
  | 31 => .array .int
  | 32 => .array .int
  | 33 => .array .int
  | 34 => .array .int
  | 35 => .array .int
  | 36 => .array .long
  | _ => .array .long
abbrev wsX60 : List Cond := u_ws RX6 TX6 38
set_option maxRecDepth 100000 in
theorem nmX6 : ∀ a, a < 38 → ∀ b, b < 38 → a ≠ b → (TX6 a).2.1 ≠ (TX6 b).2.1 := by decide +kernel
set_option maxRecDepth 100000 in
theorem tyX6_ok : ∀ k, k < 38 → parseFieldDescriptor (TX6 k).2.2.1 = some (tyX6 k) := by decide +kernel
theorem in_X6 : ∀ w ∈ wsX60, w ∈ lw_all := lw_in wsX60 [1432, 1434, 1436, 1438, 1440, 1442, 1444, 1446, 1448, 1450, 1452, 1454, 1456, 1458, 1460, 1462, 1464, 1466, 1468, 1470, 1472, 1474, 1476, 1478, 1480, 1482, 1484, 1486, 1488, 1490, 1492, 1494, 1496, 1498, 1500, 1502, 1504, 1506] (by decide +kernel) (by decide +kernel)
/-! NonsenseRows$Reader -/
def RX7 : String := "NonsenseRows$Reader"
def TX7 : u_T := fun k => match k with
  | 0 => ("NonsenseRows$Reader", "sorts", "[Ljava/lang/String;", true)
  | 1 => ("NonsenseRows$Reader", "laws", "[Ljava/lang/String;", true)
  | 2 => ("NonsenseRows$Reader", "asks", "[Ljava/lang/String;", true)
  | 3 => ("NonsenseRows$Reader", "tape", "[B", true)
  | 4 => ("NonsenseRows$Reader", "size", "I", true)
  | 5 => ("NonsenseRows$Reader", "text", "LNonsenseRows$Text;", true)
  | 6 => ("NonsenseRows$Reader", "rows", "Ljava/util/List;", true)
  | 7 => ("NonsenseRows$Reader", "at", "I", false)
  | 8 => ("NonsenseRows$Reader", "from", "I", false)
  | 9 => ("NonsenseRows$Reader", "token", "I", false)
  | 10 => ("NonsenseRows$Reader", "place", "I", false)
  | _ => ("NonsenseRows$Reader", "value", "I", false)
def tyX7 : Nat → FieldType := fun k => match k with
  | 0 => .array (.object "java/lang/String")
  | 1 => .array (.object "java/lang/String")
  | 2 => .array (.object "java/lang/String")
  | 3 => .array .byte
  | 4 => .int
  | 5 => .object "NonsenseRows$Text"
  | 6 => .object "java/util/List"
  | 7 => .int
  | 8 => .int
  | 9 => .int
  | 10 => .int
  | _ => .int
abbrev wsX70 : List Cond := u_ws RX7 TX7 12
theorem nmX7 : ∀ a, a < 12 → ∀ b, b < 12 → a ≠ b → (TX7 a).2.1 ≠ (TX7 b).2.1 := by decide +kernel
theorem tyX7_ok : ∀ k, k < 12 → parseFieldDescriptor (TX7 k).2.2.1 = some (tyX7 k) := by decide +kernel
theorem in_X7 : ∀ w ∈ wsX70, w ∈ lw_all := lw_in wsX70 [606, 608, 610, 612, 614, 616, 618, 620, 622, 624, 626, 628] (by decide +kernel) (by decide +kernel)
/-! java/lang/Math -/
def RJ3 : String := "java/lang/Math"
/-! java/lang/String -/
def RJ4 : String := "java/lang/String"
def TJ4 : u_T := fun k => match k with
  | 0 => ("java/lang/String", "value", "[B", true)
  | _ => ("java/lang/String", "coder", "B", true)
def tyJ4 : Nat → FieldType := fun k => match k with
  | 0 => .array .byte
  | _ => .byte
abbrev wsJ40 : List Cond := u_ws RJ4 TJ4 2
theorem nmJ4 : ∀ a, a < 2 → ∀ b, b < 2 → a ≠ b → (TJ4 a).2.1 ≠ (TJ4 b).2.1 := by decide +kernel
theorem tyJ4_ok : ∀ k, k < 2 → parseFieldDescriptor (TJ4 k).2.2.1 = some (tyJ4 k) := by decide +kernel
theorem in_J4 : ∀ w ∈ wsJ40, w ∈ lw_all := lw_in wsJ40 [221, 223] (by decide +kernel) (by decide +kernel)
/-! java/lang/StringLatin1 -/
def RJ5 : String := "java/lang/StringLatin1"
/-! jdk/internal/util/Preconditions -/
def RJ6 : String := "jdk/internal/util/Preconditions"
/-! java/lang/StringUTF16 -/
def RJ7 : String := "java/lang/StringUTF16"
/-! java/lang/Throwable -/
def RJ8 : String := "java/lang/Throwable"
def TJ8 : u_T := fun k => match k with
  | 0 => ("java/lang/Throwable", "cause", "Ljava/lang/Throwable;", false)
  | 1 => ("java/lang/Throwable", "stackTrace", "[Ljava/lang/StackTraceElement;", false)
  | 2 => ("java/lang/Throwable", "suppressedExceptions", "Ljava/util/List;", false)
  | 3 => ("java/lang/Throwable", "detailMessage", "Ljava/lang/String;", false)
  | _ => ("java/lang/Throwable", "backtrace", "Ljava/lang/Object;", false)
def tyJ8 : Nat → FieldType := fun k => match k with
  | 0 => .object "java/lang/Throwable"
  | 1 => .array (.object "java/lang/StackTraceElement")
  | 2 => .object "java/util/List"
  | 3 => .object "java/lang/String"
  | _ => .object "java/lang/Object"
abbrev wsJ80 : List Cond := u_ws RJ8 TJ8 5
theorem nmJ8 : ∀ a, a < 5 → ∀ b, b < 5 → a ≠ b → (TJ8 a).2.1 ≠ (TJ8 b).2.1 := by decide +kernel
theorem tyJ8_ok : ∀ k, k < 5 → parseFieldDescriptor (TJ8 k).2.2.1 = some (tyJ8 k) := by decide +kernel
theorem in_J8 : ∀ w ∈ wsJ80, w ∈ lw_all := lw_in wsJ80 [210, 211, 212, 213, 214] (by decide +kernel) (by decide +kernel)
/-! java/lang/Exception -/
def RJ9 : String := "java/lang/Exception"
/-! NonsenseRows$Wrong -/
def RX8 : String := "NonsenseRows$Wrong"
def TX8 : u_T := fun k => match k with
  | 0 => ("java/lang/Throwable", "cause", "Ljava/lang/Throwable;", false)
  | 1 => ("java/lang/Throwable", "stackTrace", "[Ljava/lang/StackTraceElement;", false)
  | 2 => ("java/lang/Throwable", "suppressedExceptions", "Ljava/util/List;", false)
  | 3 => ("java/lang/Throwable", "detailMessage", "Ljava/lang/String;", false)
  | 4 => ("java/lang/Throwable", "backtrace", "Ljava/lang/Object;", false)
  | 5 => ("java/lang/Throwable", "depth", "I", false)
  | 6 => ("NonsenseRows$Wrong", "kind", "I", true)
  | _ => ("NonsenseRows$Wrong", "place", "I", true)
def tyX8 : Nat → FieldType := fun k => match k with
  | 0 => .object "java/lang/Throwable"
  | 1 => .array (.object "java/lang/StackTraceElement")
  | 2 => .object "java/util/List"
  | 3 => .object "java/lang/String"
  | 4 => .object "java/lang/Object"
  | 5 => .int
  | 6 => .int
  | _ => .int
abbrev wsX80 : List Cond := u_ws RX8 TX8 8
theorem nmX8 : ∀ a, a < 8 → ∀ b, b < 8 → a ≠ b → (TX8 a).2.1 ≠ (TX8 b).2.1 := by decide +kernel
theorem tyX8_ok : ∀ k, k < 8 → parseFieldDescriptor (TX8 k).2.2.1 = some (tyX8 k) := by decide +kernel
theorem in_X8 : ∀ w ∈ wsX80, w ∈ lw_all := lw_in wsX80 [726, 727, 728, 729, 730, 748, 744, 746] (by decide +kernel) (by decide +kernel)
/-! NonsenseRows$Sum -/
def RX9 : String := "NonsenseRows$Sum"
/-! NonsenseRows$Amount -/
def RX10 : String := "NonsenseRows$Amount"
def TX10 : u_T := fun k => match k with
  | _ => ("NonsenseRows$Amount", "number", "I", true)
def tyX10 : Nat → FieldType := fun k => match k with
  | _ => .int
abbrev wsX100 : List Cond := u_ws RX10 TX10 1
theorem nmX10 : ∀ a, a < 1 → ∀ b, b < 1 → a ≠ b → (TX10 a).2.1 ≠ (TX10 b).2.1 := by decide +kernel
theorem tyX10_ok : ∀ k, k < 1 → parseFieldDescriptor (TX10 k).2.2.1 = some (tyX10 k) := by decide +kernel
theorem in_X10 : ∀ w ∈ wsX100, w ∈ lw_all := lw_in wsX100 [794] (by decide +kernel) (by decide +kernel)
/-! NonsenseRows$Part -/
def RX11 : String := "NonsenseRows$Part"
def TX11 : u_T := fun k => match k with
  | _ => ("NonsenseRows$Part", "what", "I", true)
def tyX11 : Nat → FieldType := fun k => match k with
  | _ => .int
abbrev wsX110 : List Cond := u_ws RX11 TX11 1
theorem nmX11 : ∀ a, a < 1 → ∀ b, b < 1 → a ≠ b → (TX11 a).2.1 ≠ (TX11 b).2.1 := by decide +kernel
theorem tyX11_ok : ∀ k, k < 1 → parseFieldDescriptor (TX11 k).2.2.1 = some (tyX11 k) := by decide +kernel
theorem in_X11 : ∀ w ∈ wsX110, w ∈ lw_all := lw_in wsX110 [804] (by decide +kernel) (by decide +kernel)
/-! NonsenseRows$Both -/
def RX12 : String := "NonsenseRows$Both"
/-! NonsenseRows$Times -/
def RX13 : String := "NonsenseRows$Times"
def TX13 : u_T := fun k => match k with
  | 0 => ("NonsenseRows$Both", "one", "LNonsenseRows$Sum;", true)
  | _ => ("NonsenseRows$Both", "other", "LNonsenseRows$Sum;", true)
def tyX13 : Nat → FieldType := fun k => match k with
  | 0 => .object "NonsenseRows$Sum"
  | _ => .object "NonsenseRows$Sum"
abbrev wsX130 : List Cond := u_ws RX13 TX13 2
theorem nmX13 : ∀ a, a < 2 → ∀ b, b < 2 → a ≠ b → (TX13 a).2.1 ≠ (TX13 b).2.1 := by decide +kernel
theorem tyX13_ok : ∀ k, k < 2 → parseFieldDescriptor (TX13 k).2.2.1 = some (tyX13 k) := by decide +kernel
theorem in_X13 : ∀ w ∈ wsX130, w ∈ lw_all := lw_in wsX130 [831, 832] (by decide +kernel) (by decide +kernel)
/-! NonsenseRows$Over -/
def RX14 : String := "NonsenseRows$Over"
def TX14 : u_T := fun k => match k with
  | 0 => ("NonsenseRows$Both", "one", "LNonsenseRows$Sum;", true)
  | _ => ("NonsenseRows$Both", "other", "LNonsenseRows$Sum;", true)
def tyX14 : Nat → FieldType := fun k => match k with
  | 0 => .object "NonsenseRows$Sum"
  | _ => .object "NonsenseRows$Sum"
abbrev wsX140 : List Cond := u_ws RX14 TX14 2
theorem nmX14 : ∀ a, a < 2 → ∀ b, b < 2 → a ≠ b → (TX14 a).2.1 ≠ (TX14 b).2.1 := by decide +kernel
theorem tyX14_ok : ∀ k, k < 2 → parseFieldDescriptor (TX14 k).2.2.1 = some (tyX14 k) := by decide +kernel
theorem in_X14 : ∀ w ∈ wsX140, w ∈ lw_all := lw_in wsX140 [823, 825] (by decide +kernel) (by decide +kernel)
/-! NonsenseRows$Added -/
def RX15 : String := "NonsenseRows$Added"
def TX15 : u_T := fun k => match k with
  | 0 => ("NonsenseRows$Both", "one", "LNonsenseRows$Sum;", true)
  | 1 => ("NonsenseRows$Both", "other", "LNonsenseRows$Sum;", true)
  | _ => ("NonsenseRows$Added", "isLess", "Z", true)
def tyX15 : Nat → FieldType := fun k => match k with
  | 0 => .object "NonsenseRows$Sum"
  | 1 => .object "NonsenseRows$Sum"
  | _ => .boolean
abbrev wsX150 : List Cond := u_ws RX15 TX15 3
theorem nmX15 : ∀ a, a < 3 → ∀ b, b < 3 → a ≠ b → (TX15 a).2.1 ≠ (TX15 b).2.1 := by decide +kernel
theorem tyX15_ok : ∀ k, k < 3 → parseFieldDescriptor (TX15 k).2.2.1 = some (tyX15 k) := by decide +kernel
theorem in_X15 : ∀ w ∈ wsX150, w ∈ lw_all := lw_in wsX150 [845, 846, 843] (by decide +kernel) (by decide +kernel)
/-! jdk/internal/util/ArraysSupport -/
def RJ10 : String := "jdk/internal/util/ArraysSupport"
/-! java/util/Arrays -/
def RJ11 : String := "java/util/Arrays"
/-! java/util/Objects -/
def RJ12 : String := "java/util/Objects"
/-! java/lang/Integer -/
def RJ13 : String := "java/lang/Integer"
/-! NonsenseRows$Sitting -/
def RX16 : String := "NonsenseRows$Sitting"
def TX16 : u_T := fun k => match k with
  | 0 => ("NonsenseRows$Sitting", "row", "I", true)
  | 1 => ("NonsenseRows$Sitting", "readings", "I", true)
  | 2 => ("NonsenseRows$Sitting", "hour", "I", true)
  | 3 => ("NonsenseRows$Sitting", "ahead", "I", true)
  | 4 => ("NonsenseRows$Sitting", "behind", "I", true)
  | 5 => ("NonsenseRows$Sitting", "isLearnt", "Z", true)
  | _ => ("NonsenseRows$Sitting", "isEnough", "Z", true)
def tyX16 : Nat → FieldType := fun k => match k with
  | 0 => .int
  | 1 => .int
  | 2 => .int
  | 3 => .int
  | 4 => .int
  | 5 => .boolean
  | _ => .boolean
abbrev wsX160 : List Cond := u_ws RX16 TX16 7
theorem nmX16 : ∀ a, a < 7 → ∀ b, b < 7 → a ≠ b → (TX16 a).2.1 ≠ (TX16 b).2.1 := by decide +kernel
theorem tyX16_ok : ∀ k, k < 7 → parseFieldDescriptor (TX16 k).2.2.1 = some (tyX16 k) := by decide +kernel
theorem in_X16 : ∀ w ∈ wsX160, w ∈ lw_all := lw_in wsX160 [1115, 1117, 1119, 1121, 1123, 1125, 1127] (by decide +kernel) (by decide +kernel)
/-! java/lang/RuntimeException -/
def RJ14 : String := "java/lang/RuntimeException"
/-! java/lang/NegativeArraySizeException -/
def RJ15 : String := "java/lang/NegativeArraySizeException"
def TJ15 : u_T := fun k => match k with
  | 0 => ("java/lang/Throwable", "backtrace", "Ljava/lang/Object;", false)
  | 1 => ("java/lang/Throwable", "detailMessage", "Ljava/lang/String;", false)
  | 2 => ("java/lang/Throwable", "cause", "Ljava/lang/Throwable;", false)
  | 3 => ("java/lang/Throwable", "stackTrace", "[Ljava/lang/StackTraceElement;", false)
  | 4 => ("java/lang/Throwable", "depth", "I", false)
  | _ => ("java/lang/Throwable", "suppressedExceptions", "Ljava/util/List;", false)
def tyJ15 : Nat → FieldType := fun k => match k with
  | 0 => .object "java/lang/Object"
  | 1 => .object "java/lang/String"
  | 2 => .object "java/lang/Throwable"
  | 3 => .array (.object "java/lang/StackTraceElement")
  | 4 => .int
  | _ => .object "java/util/List"
abbrev wsJ150 : List Cond := u_ws RJ15 TJ15 6
theorem nmJ15 : ∀ a, a < 6 → ∀ b, b < 6 → a ≠ b → (TJ15 a).2.1 ≠ (TJ15 b).2.1 := by decide +kernel
theorem tyJ15_ok : ∀ k, k < 6 → parseFieldDescriptor (TJ15 k).2.2.1 = some (tyJ15 k) := by decide +kernel
theorem in_J15 : ∀ w ∈ wsJ150, w ∈ lw_all := lw_in wsJ150 [189, 191, 193, 195, 197, 199] (by decide +kernel) (by decide +kernel)
/-! java/lang/NullPointerException -/
def RJ16 : String := "java/lang/NullPointerException"
def TJ16 : u_T := fun k => match k with
  | 0 => ("java/lang/Throwable", "backtrace", "Ljava/lang/Object;", false)
  | 1 => ("java/lang/Throwable", "detailMessage", "Ljava/lang/String;", false)
  | 2 => ("java/lang/Throwable", "cause", "Ljava/lang/Throwable;", false)
  | 3 => ("java/lang/Throwable", "stackTrace", "[Ljava/lang/StackTraceElement;", false)
  | 4 => ("java/lang/Throwable", "depth", "I", false)
  | 5 => ("java/lang/Throwable", "suppressedExceptions", "Ljava/util/List;", false)
  | 6 => ("java/lang/NullPointerException", "extendedMessageState", "I", false)
  | _ => ("java/lang/NullPointerException", "extendedMessage", "Ljava/lang/String;", false)
def tyJ16 : Nat → FieldType := fun k => match k with
  | 0 => .object "java/lang/Object"
  | 1 => .object "java/lang/String"
  | 2 => .object "java/lang/Throwable"
  | 3 => .array (.object "java/lang/StackTraceElement")
  | 4 => .int
  | 5 => .object "java/util/List"
  | 6 => .int
  | _ => .object "java/lang/String"
abbrev wsJ160 : List Cond := u_ws RJ16 TJ16 8
theorem nmJ16 : ∀ a, a < 8 → ∀ b, b < 8 → a ≠ b → (TJ16 a).2.1 ≠ (TJ16 b).2.1 := by decide +kernel
theorem tyJ16_ok : ∀ k, k < 8 → parseFieldDescriptor (TJ16 k).2.2.1 = some (tyJ16 k) := by decide +kernel
theorem in_J16 : ∀ w ∈ wsJ160, w ∈ lw_all := lw_in wsJ160 [252, 253, 254, 255, 256, 257, 248, 250] (by decide +kernel) (by decide +kernel)
/-! java/lang/IndexOutOfBoundsException -/
def RJ17 : String := "java/lang/IndexOutOfBoundsException"
/-! java/lang/ArrayIndexOutOfBoundsException -/
def RJ18 : String := "java/lang/ArrayIndexOutOfBoundsException"
def TJ18 : u_T := fun k => match k with
  | 0 => ("java/lang/Throwable", "backtrace", "Ljava/lang/Object;", false)
  | 1 => ("java/lang/Throwable", "detailMessage", "Ljava/lang/String;", false)
  | 2 => ("java/lang/Throwable", "cause", "Ljava/lang/Throwable;", false)
  | 3 => ("java/lang/Throwable", "stackTrace", "[Ljava/lang/StackTraceElement;", false)
  | 4 => ("java/lang/Throwable", "depth", "I", false)
  | _ => ("java/lang/Throwable", "suppressedExceptions", "Ljava/util/List;", false)
def tyJ18 : Nat → FieldType := fun k => match k with
  | 0 => .object "java/lang/Object"
  | 1 => .object "java/lang/String"
  | 2 => .object "java/lang/Throwable"
  | 3 => .array (.object "java/lang/StackTraceElement")
  | 4 => .int
  | _ => .object "java/util/List"
abbrev wsJ180 : List Cond := u_ws RJ18 TJ18 6
theorem nmJ18 : ∀ a, a < 6 → ∀ b, b < 6 → a ≠ b → (TJ18 a).2.1 ≠ (TJ18 b).2.1 := by decide +kernel
theorem tyJ18_ok : ∀ k, k < 6 → parseFieldDescriptor (TJ18 k).2.2.1 = some (tyJ18 k) := by decide +kernel
theorem in_J18 : ∀ w ∈ wsJ180, w ∈ lw_all := lw_in wsJ180 [269, 270, 271, 272, 273, 274] (by decide +kernel) (by decide +kernel)
/-! java/lang/ClassCastException -/
def RJ19 : String := "java/lang/ClassCastException"
def TJ19 : u_T := fun k => match k with
  | 0 => ("java/lang/Throwable", "backtrace", "Ljava/lang/Object;", false)
  | 1 => ("java/lang/Throwable", "detailMessage", "Ljava/lang/String;", false)
  | 2 => ("java/lang/Throwable", "cause", "Ljava/lang/Throwable;", false)
  | 3 => ("java/lang/Throwable", "stackTrace", "[Ljava/lang/StackTraceElement;", false)
  | 4 => ("java/lang/Throwable", "depth", "I", false)
  | _ => ("java/lang/Throwable", "suppressedExceptions", "Ljava/util/List;", false)
def tyJ19 : Nat → FieldType := fun k => match k with
  | 0 => .object "java/lang/Object"
  | 1 => .object "java/lang/String"
  | 2 => .object "java/lang/Throwable"
  | 3 => .array (.object "java/lang/StackTraceElement")
  | 4 => .int
  | _ => .object "java/util/List"
abbrev wsJ190 : List Cond := u_ws RJ19 TJ19 6
theorem nmJ19 : ∀ a, a < 6 → ∀ b, b < 6 → a ≠ b → (TJ19 a).2.1 ≠ (TJ19 b).2.1 := by decide +kernel
theorem tyJ19_ok : ∀ k, k < 6 → parseFieldDescriptor (TJ19 k).2.2.1 = some (tyJ19 k) := by decide +kernel
theorem in_J19 : ∀ w ∈ wsJ190, w ∈ lw_all := lw_in wsJ190 [296, 297, 298, 299, 300, 301] (by decide +kernel) (by decide +kernel)
/-! java/lang/Object -/
def RJ20 : String := "java/lang/Object"
abbrev vwCl : List vw_C := [(RX0, TX0, 11), (RX1, TX1, 7), (RX2, TX2, 8), (RJ2, TJ2, 3), (RX3, TX3, 5), (RX4, TX4, 5), (RX5, TX5, 1), (RX6, TX6, 38), (RX7, TX7, 12), (RJ4, TJ4, 2), (RJ8, TJ8, 5), (RX8, TX8, 8), (RX10, TX10, 1), (RX11, TX11, 1), (RX13, TX13, 2), (RX14, TX14, 2), (RX15, TX15, 3), (RX16, TX16, 7), (RJ15, TJ15, 6), (RJ16, TJ16, 8), (RJ18, TJ18, 6), (RJ19, TJ19, 6)]
