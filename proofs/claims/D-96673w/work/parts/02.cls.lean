set_option maxRecDepth 100000
/-! SeenInOrderOfAge -/
def RX0 : String := "SeenInOrderOfAge"
def TX0 : u_T := fun k => match k with
  | 0 => ("SeenInOrderOfAge", "now", "LSeenInOrderOfAge$Window;", false)
  | 1 => ("SeenInOrderOfAge", "image", "LSeenInOrderOfAge$Window;", false)
  | 2 => ("SeenInOrderOfAge", "tried", "LSeenInOrderOfAge$Window;", true)
  | 3 => ("SeenInOrderOfAge", "more", "LSeenInOrderOfAge$Panes;", true)
  | 4 => ("SeenInOrderOfAge", "evening", "LSeenInOrderOfAge$Evening;", true)
  | 5 => ("SeenInOrderOfAge", "row", "[I", true)
  | 6 => ("SeenInOrderOfAge", "gets", "[I", true)
  | 7 => ("SeenInOrderOfAge", "wish", "[I", true)
  | 8 => ("SeenInOrderOfAge", "shelves", "[LSeenInOrderOfAge$Sheet;", true)
  | 9 => ("SeenInOrderOfAge", "tape", "[I", true)
  | 10 => ("SeenInOrderOfAge", "size", "I", false)
  | _ => ("SeenInOrderOfAge", "refused", "[I", true)
def tyX0 : Nat → FieldType := fun k => match k with
  | 0 => .object "SeenInOrderOfAge$Window"
  | 1 => .object "SeenInOrderOfAge$Window"
  | 2 => .object "SeenInOrderOfAge$Window"
  | 3 => .object "SeenInOrderOfAge$Panes"
  | 4 => .object "SeenInOrderOfAge$Evening"
  | 5 => .array .int
  | 6 => .array .int
  | 7 => .array .int
  | 8 => .array (.object "SeenInOrderOfAge$Sheet")
  | 9 => .array .int
  | 10 => .int
  | _ => .array .int
abbrev wsX00 : List Cond := u_ws RX0 TX0 12
theorem nmX0 : ∀ a, a < 12 → ∀ b, b < 12 → a ≠ b → (TX0 a).2.1 ≠ (TX0 b).2.1 := by decide +kernel
theorem tyX0_ok : ∀ k, k < 12 → parseFieldDescriptor (TX0 k).2.2.1 = some (tyX0 k) := by decide +kernel
theorem in_X0 : ∀ w ∈ wsX00, w ∈ lw_all := lw_in wsX00 [258, 260, 262, 264, 266, 268, 270, 272, 274, 276, 278, 280] (by decide +kernel) (by decide +kernel)
/-! SeenInOrderOfAge$Window -/
def RX1 : String := "SeenInOrderOfAge$Window"
def TX1 : u_T := fun k => match k with
  | 0 => ("SeenInOrderOfAge$Window", "panes", "LSeenInOrderOfAge$Panes;", true)
  | 1 => ("SeenInOrderOfAge$Window", "looker", "[LSeenInOrderOfAge$Looker;", true)
  | 2 => ("SeenInOrderOfAge$Window", "age", "[I", true)
  | 3 => ("SeenInOrderOfAge$Window", "likes", "[I", true)
  | 4 => ("SeenInOrderOfAge$Window", "comes", "[I", true)
  | 5 => ("SeenInOrderOfAge$Window", "shine", "[I", true)
  | 6 => ("SeenInOrderOfAge$Window", "holds", "[I", true)
  | 7 => ("SeenInOrderOfAge$Window", "lookers", "I", false)
  | 8 => ("SeenInOrderOfAge$Window", "evenings", "I", false)
  | _ => ("SeenInOrderOfAge$Window", "seed", "I", false)
def tyX1 : Nat → FieldType := fun k => match k with
  | 0 => .object "SeenInOrderOfAge$Panes"
  | 1 => .array (.object "SeenInOrderOfAge$Looker")
  | 2 => .array .int
  | 3 => .array .int
  | 4 => .array .int
  | 5 => .array .int
  | 6 => .array .int
  | 7 => .int
  | 8 => .int
  | _ => .int
abbrev wsX10 : List Cond := u_ws RX1 TX1 10
theorem nmX1 : ∀ a, a < 10 → ∀ b, b < 10 → a ≠ b → (TX1 a).2.1 ≠ (TX1 b).2.1 := by decide +kernel
theorem tyX1_ok : ∀ k, k < 10 → parseFieldDescriptor (TX1 k).2.2.1 = some (tyX1 k) := by decide +kernel
theorem in_X1 : ∀ w ∈ wsX10, w ∈ lw_all := lw_in wsX10 [184, 186, 188, 190, 192, 194, 196, 198, 200, 202] (by decide +kernel) (by decide +kernel)
/-! SeenInOrderOfAge$Panes -/
def RX2 : String := "SeenInOrderOfAge$Panes"
def TX2 : u_T := fun k => match k with
  | 0 => ("SeenInOrderOfAge$Panes", "sort", "[I", true)
  | _ => ("SeenInOrderOfAge$Panes", "first", "I", false)
def tyX2 : Nat → FieldType := fun k => match k with
  | 0 => .array .int
  | _ => .int
abbrev wsX20 : List Cond := u_ws RX2 TX2 2
theorem nmX2 : ∀ a, a < 2 → ∀ b, b < 2 → a ≠ b → (TX2 a).2.1 ≠ (TX2 b).2.1 := by decide +kernel
theorem tyX2_ok : ∀ k, k < 2 → parseFieldDescriptor (TX2 k).2.2.1 = some (tyX2 k) := by decide +kernel
theorem in_X2 : ∀ w ∈ wsX20, w ∈ lw_all := lw_in wsX20 [149, 151] (by decide +kernel) (by decide +kernel)
/-! SeenInOrderOfAge$Evening -/
def RX3 : String := "SeenInOrderOfAge$Evening"
def TX3 : u_T := fun k => match k with
  | 0 => ("SeenInOrderOfAge$Evening", "panes", "LSeenInOrderOfAge$Panes;", true)
  | 1 => ("SeenInOrderOfAge$Evening", "taken", "[I", true)
  | 2 => ("SeenInOrderOfAge$Evening", "first", "[I", true)
  | 3 => ("SeenInOrderOfAge$Evening", "window", "LSeenInOrderOfAge$Window;", false)
  | _ => ("SeenInOrderOfAge$Evening", "glad", "I", false)
def tyX3 : Nat → FieldType := fun k => match k with
  | 0 => .object "SeenInOrderOfAge$Panes"
  | 1 => .array .int
  | 2 => .array .int
  | 3 => .object "SeenInOrderOfAge$Window"
  | _ => .int
abbrev wsX30 : List Cond := u_ws RX3 TX3 5
theorem nmX3 : ∀ a, a < 5 → ∀ b, b < 5 → a ≠ b → (TX3 a).2.1 ≠ (TX3 b).2.1 := by decide +kernel
theorem tyX3_ok : ∀ k, k < 5 → parseFieldDescriptor (TX3 k).2.2.1 = some (tyX3 k) := by decide +kernel
theorem in_X3 : ∀ w ∈ wsX30, w ∈ lw_all := lw_in wsX30 [224, 226, 228, 230, 232] (by decide +kernel) (by decide +kernel)
/-! SeenInOrderOfAge$Sheet -/
def RX4 : String := "SeenInOrderOfAge$Sheet"
def TX4 : u_T := fun k => match k with
  | _ => ("SeenInOrderOfAge$Sheet", "held", "Ljava/lang/Object;", false)
def tyX4 : Nat → FieldType := fun k => match k with
  | _ => .object "java/lang/Object"
abbrev wsX40 : List Cond := u_ws RX4 TX4 1
theorem nmX4 : ∀ a, a < 1 → ∀ b, b < 1 → a ≠ b → (TX4 a).2.1 ≠ (TX4 b).2.1 := by decide +kernel
theorem tyX4_ok : ∀ k, k < 1 → parseFieldDescriptor (TX4 k).2.2.1 = some (tyX4 k) := by decide +kernel
theorem in_X4 : ∀ w ∈ wsX40, w ∈ lw_all := lw_in wsX40 [243] (by decide +kernel) (by decide +kernel)
/-! SeenInOrderOfAgeModel -/
def RX5 : String := "SeenInOrderOfAgeModel"
def TX5 : u_T := fun k => match k with
  | 0 => ("SeenInOrderOfAgeModel", "thing", "[I", true)
  | 1 => ("SeenInOrderOfAgeModel", "many", "I", false)
  | 2 => ("SeenInOrderOfAgeModel", "kind", "[I", true)
  | 3 => ("SeenInOrderOfAgeModel", "own", "[I", true)
  | 4 => ("SeenInOrderOfAgeModel", "age", "[I", true)
  | 5 => ("SeenInOrderOfAgeModel", "liked", "[I", true)
  | 6 => ("SeenInOrderOfAgeModel", "comes", "[I", true)
  | 7 => ("SeenInOrderOfAgeModel", "shine", "[I", true)
  | 8 => ("SeenInOrderOfAgeModel", "has", "[I", true)
  | 9 => ("SeenInOrderOfAgeModel", "evenings", "I", false)
  | 10 => ("SeenInOrderOfAgeModel", "seed", "I", false)
  | 11 => ("SeenInOrderOfAgeModel", "taped", "I", false)
  | 12 => ("SeenInOrderOfAgeModel", "tape", "[I", true)
  | 13 => ("SeenInOrderOfAgeModel", "from", "I", false)
  | 14 => ("SeenInOrderOfAgeModel", "to", "I", false)
  | 15 => ("SeenInOrderOfAgeModel", "token", "I", false)
  | 16 => ("SeenInOrderOfAgeModel", "value", "I", false)
  | 17 => ("SeenInOrderOfAgeModel", "holding", "[I", true)
  | 18 => ("SeenInOrderOfAgeModel", "rowLength", "[I", true)
  | 19 => ("SeenInOrderOfAgeModel", "rowOf", "[J", true)
  | 20 => ("SeenInOrderOfAgeModel", "refusals", "[I", true)
  | 21 => ("SeenInOrderOfAgeModel", "imaged", "Z", false)
  | 22 => ("SeenInOrderOfAgeModel", "old", "[I", true)
  | 23 => ("SeenInOrderOfAgeModel", "ahead", "[I", true)
  | 24 => ("SeenInOrderOfAgeModel", "there", "[I", true)
  | 25 => ("SeenInOrderOfAgeModel", "looks", "I", false)
  | 26 => ("SeenInOrderOfAgeModel", "order", "[I", true)
  | 27 => ("SeenInOrderOfAgeModel", "took", "[I", true)
  | 28 => ("SeenInOrderOfAgeModel", "firstOf", "[I", true)
  | 29 => ("SeenInOrderOfAgeModel", "wish", "[I", true)
  | 30 => ("SeenInOrderOfAgeModel", "out", "[Z", true)
  | 31 => ("SeenInOrderOfAgeModel", "gets", "[I", true)
  | _ => ("SeenInOrderOfAgeModel", "more", "[I", true)
def tyX5 : Nat → FieldType := fun k => match k with
  | 0 => .array .int
  | 1 => .int
  | 2 => .array .int
  | 3 => .array .int
  | 4 => .array .int
  | 5 => .array .int
  | 6 => .array .int
  | 7 => .array .int
  | 8 => .array .int
  | 9 => .int
  | 10 => .int
  | 11 => .int
  | 12 => .array .int
  | 13 => .int
  | 14 => .int
  | 15 => .int
  | 16 => .int
  | 17 => .array .int
  | 18 => .array .int
  | 19 => .array .long
  | 20 => .array .int
  | 21 => .boolean
  | 22 => .array .int
  | 23 => .array .int
  | 24 => .array .int
  | 25 => .int
  | 26 => .array .int
  | 27 => .array .int
  | 28 => .array .int
  | 29 => .array .int
  | 30 => .array .boolean
  | 31 => .array .int
  | _ => .array .int
abbrev wsX50 : List Cond := u_ws RX5 TX5 33
theorem nmX5 : ∀ a, a < 33 → ∀ b, b < 33 → a ≠ b → (TX5 a).2.1 ≠ (TX5 b).2.1 := by decide +kernel
theorem tyX5_ok : ∀ k, k < 33 → parseFieldDescriptor (TX5 k).2.2.1 = some (tyX5 k) := by decide +kernel
theorem in_X5 : ∀ w ∈ wsX50, w ∈ lw_all := lw_in wsX50 [1556, 1558, 1560, 1562, 1564, 1566, 1568, 1570, 1572, 1574, 1576, 1578, 1580, 1582, 1584, 1586, 1588, 1590, 1592, 1594, 1596, 1598, 1600, 1602, 1604, 1606, 1608, 1610, 1612, 1614, 1616, 1618, 1620] (by decide +kernel) (by decide +kernel)
/-! SeenInOrderOfAge$Refused -/
def RX6 : String := "SeenInOrderOfAge$Refused"
def TX6 : u_T := fun k => match k with
  | 0 => ("java/lang/Throwable", "cause", "Ljava/lang/Throwable;", false)
  | 1 => ("java/lang/Throwable", "stackTrace", "[Ljava/lang/StackTraceElement;", false)
  | 2 => ("java/lang/Throwable", "suppressedExceptions", "Ljava/util/List;", false)
  | 3 => ("java/lang/Throwable", "detailMessage", "Ljava/lang/String;", false)
  | 4 => ("java/lang/Throwable", "backtrace", "Ljava/lang/Object;", false)
  | 5 => ("java/lang/Throwable", "depth", "I", false)
  | _ => ("SeenInOrderOfAge$Refused", "by", "I", true)
def tyX6 : Nat → FieldType := fun k => match k with
  | 0 => .object "java/lang/Throwable"
  | 1 => .array (.object "java/lang/StackTraceElement")
  | 2 => .object "java/util/List"
  | 3 => .object "java/lang/String"
  | 4 => .object "java/lang/Object"
  | 5 => .int
  | _ => .int
abbrev wsX60 : List Cond := u_ws RX6 TX6 7
theorem nmX6 : ∀ a, a < 7 → ∀ b, b < 7 → a ≠ b → (TX6 a).2.1 ≠ (TX6 b).2.1 := by decide +kernel
theorem tyX6_ok : ∀ k, k < 7 → parseFieldDescriptor (TX6 k).2.2.1 = some (tyX6 k) := by decide +kernel
theorem in_X6 : ∀ w ∈ wsX60, w ∈ lw_all := lw_in wsX60 [423, 424, 425, 426, 427, 444, 442] (by decide +kernel) (by decide +kernel)
/-! SeenInOrderOfAge$Looker -/
def RX7 : String := "SeenInOrderOfAge$Looker"
def TX7 : u_T := fun k => match k with
  | 0 => ("SeenInOrderOfAge$Looker", "number", "I", true)
  | _ => ("SeenInOrderOfAge$Looker", "a", "I", true)
def tyX7 : Nat → FieldType := fun k => match k with
  | 0 => .int
  | _ => .int
abbrev wsX70 : List Cond := u_ws RX7 TX7 2
theorem nmX7 : ∀ a, a < 2 → ∀ b, b < 2 → a ≠ b → (TX7 a).2.1 ≠ (TX7 b).2.1 := by decide +kernel
theorem tyX7_ok : ∀ k, k < 2 → parseFieldDescriptor (TX7 k).2.2.1 = some (tyX7 k) := by decide +kernel
theorem in_X7 : ∀ w ∈ wsX70, w ∈ lw_all := lw_in wsX70 [681, 683] (by decide +kernel) (by decide +kernel)
/-! SeenInOrderOfAge$Child -/
def RX8 : String := "SeenInOrderOfAge$Child"
def TX8 : u_T := fun k => match k with
  | 0 => ("SeenInOrderOfAge$Looker", "number", "I", true)
  | _ => ("SeenInOrderOfAge$Looker", "a", "I", true)
def tyX8 : Nat → FieldType := fun k => match k with
  | 0 => .int
  | _ => .int
abbrev wsX80 : List Cond := u_ws RX8 TX8 2
theorem nmX8 : ∀ a, a < 2 → ∀ b, b < 2 → a ≠ b → (TX8 a).2.1 ≠ (TX8 b).2.1 := by decide +kernel
theorem tyX8_ok : ∀ k, k < 2 → parseFieldDescriptor (TX8 k).2.2.1 = some (tyX8 k) := by decide +kernel
theorem in_X8 : ∀ w ∈ wsX80, w ∈ lw_all := lw_in wsX80 [691, 692] (by decide +kernel) (by decide +kernel)
/-! SeenInOrderOfAge$Old -/
def RX9 : String := "SeenInOrderOfAge$Old"
def TX9 : u_T := fun k => match k with
  | 0 => ("SeenInOrderOfAge$Looker", "number", "I", true)
  | _ => ("SeenInOrderOfAge$Looker", "a", "I", true)
def tyX9 : Nat → FieldType := fun k => match k with
  | 0 => .int
  | _ => .int
abbrev wsX90 : List Cond := u_ws RX9 TX9 2
theorem nmX9 : ∀ a, a < 2 → ∀ b, b < 2 → a ≠ b → (TX9 a).2.1 ≠ (TX9 b).2.1 := by decide +kernel
theorem tyX9_ok : ∀ k, k < 2 → parseFieldDescriptor (TX9 k).2.2.1 = some (tyX9 k) := by decide +kernel
theorem in_X9 : ∀ w ∈ wsX90, w ∈ lw_all := lw_in wsX90 [698, 699] (by decide +kernel) (by decide +kernel)
/-! SeenInOrderOfAge$Greedy -/
def RX10 : String := "SeenInOrderOfAge$Greedy"
def TX10 : u_T := fun k => match k with
  | 0 => ("SeenInOrderOfAge$Looker", "number", "I", true)
  | _ => ("SeenInOrderOfAge$Looker", "a", "I", true)
def tyX10 : Nat → FieldType := fun k => match k with
  | 0 => .int
  | _ => .int
abbrev wsX100 : List Cond := u_ws RX10 TX10 2
theorem nmX10 : ∀ a, a < 2 → ∀ b, b < 2 → a ≠ b → (TX10 a).2.1 ≠ (TX10 b).2.1 := by decide +kernel
theorem tyX10_ok : ∀ k, k < 2 → parseFieldDescriptor (TX10 k).2.2.1 = some (tyX10 k) := by decide +kernel
theorem in_X10 : ∀ w ∈ wsX100, w ∈ lw_all := lw_in wsX100 [706, 707] (by decide +kernel) (by decide +kernel)
/-! SeenInOrderOfAge$Giver -/
def RX11 : String := "SeenInOrderOfAge$Giver"
def TX11 : u_T := fun k => match k with
  | 0 => ("SeenInOrderOfAge$Looker", "number", "I", true)
  | _ => ("SeenInOrderOfAge$Looker", "a", "I", true)
def tyX11 : Nat → FieldType := fun k => match k with
  | 0 => .int
  | _ => .int
abbrev wsX110 : List Cond := u_ws RX11 TX11 2
theorem nmX11 : ∀ a, a < 2 → ∀ b, b < 2 → a ≠ b → (TX11 a).2.1 ≠ (TX11 b).2.1 := by decide +kernel
theorem tyX11_ok : ∀ k, k < 2 → parseFieldDescriptor (TX11 k).2.2.1 = some (tyX11 k) := by decide +kernel
theorem in_X11 : ∀ w ∈ wsX110, w ∈ lw_all := lw_in wsX110 [713, 714] (by decide +kernel) (by decide +kernel)
/-! SeenInOrderOfAge$Shy -/
def RX12 : String := "SeenInOrderOfAge$Shy"
def TX12 : u_T := fun k => match k with
  | 0 => ("SeenInOrderOfAge$Looker", "number", "I", true)
  | _ => ("SeenInOrderOfAge$Looker", "a", "I", true)
def tyX12 : Nat → FieldType := fun k => match k with
  | 0 => .int
  | _ => .int
abbrev wsX120 : List Cond := u_ws RX12 TX12 2
theorem nmX12 : ∀ a, a < 2 → ∀ b, b < 2 → a ≠ b → (TX12 a).2.1 ≠ (TX12 b).2.1 := by decide +kernel
theorem tyX12_ok : ∀ k, k < 2 → parseFieldDescriptor (TX12 k).2.2.1 = some (tyX12 k) := by decide +kernel
theorem in_X12 : ∀ w ∈ wsX120, w ∈ lw_all := lw_in wsX120 [720, 721] (by decide +kernel) (by decide +kernel)
/-! SeenInOrderOfAge$Reader -/
def RX13 : String := "SeenInOrderOfAge$Reader"
def TX13 : u_T := fun k => match k with
  | 0 => ("SeenInOrderOfAge$Reader", "tape", "[I", true)
  | 1 => ("SeenInOrderOfAge$Reader", "size", "I", true)
  | 2 => ("SeenInOrderOfAge$Reader", "window", "LSeenInOrderOfAge$Window;", true)
  | 3 => ("SeenInOrderOfAge$Reader", "at", "I", false)
  | 4 => ("SeenInOrderOfAge$Reader", "from", "I", false)
  | 5 => ("SeenInOrderOfAge$Reader", "word", "Ljava/lang/String;", false)
  | _ => ("SeenInOrderOfAge$Reader", "number", "I", false)
def tyX13 : Nat → FieldType := fun k => match k with
  | 0 => .array .int
  | 1 => .int
  | 2 => .object "SeenInOrderOfAge$Window"
  | 3 => .int
  | 4 => .int
  | 5 => .object "java/lang/String"
  | _ => .int
abbrev wsX130 : List Cond := u_ws RX13 TX13 7
theorem nmX13 : ∀ a, a < 7 → ∀ b, b < 7 → a ≠ b → (TX13 a).2.1 ≠ (TX13 b).2.1 := by decide +kernel
theorem tyX13_ok : ∀ k, k < 7 → parseFieldDescriptor (TX13 k).2.2.1 = some (tyX13 k) := by decide +kernel
theorem in_X13 : ∀ w ∈ wsX130, w ∈ lw_all := lw_in wsX130 [1018, 1020, 1022, 1024, 1026, 1028, 1030] (by decide +kernel) (by decide +kernel)
/-! SeenInOrderOfAge$Fault -/
def RX14 : String := "SeenInOrderOfAge$Fault"
def TX14 : u_T := fun k => match k with
  | 0 => ("java/lang/Throwable", "cause", "Ljava/lang/Throwable;", false)
  | 1 => ("java/lang/Throwable", "stackTrace", "[Ljava/lang/StackTraceElement;", false)
  | 2 => ("java/lang/Throwable", "suppressedExceptions", "Ljava/util/List;", false)
  | 3 => ("java/lang/Throwable", "detailMessage", "Ljava/lang/String;", false)
  | 4 => ("java/lang/Throwable", "backtrace", "Ljava/lang/Object;", false)
  | 5 => ("java/lang/Throwable", "depth", "I", false)
  | _ => ("SeenInOrderOfAge$Fault", "place", "I", true)
def tyX14 : Nat → FieldType := fun k => match k with
  | 0 => .object "java/lang/Throwable"
  | 1 => .array (.object "java/lang/StackTraceElement")
  | 2 => .object "java/util/List"
  | 3 => .object "java/lang/String"
  | 4 => .object "java/lang/Object"
  | 5 => .int
  | _ => .int
abbrev wsX140 : List Cond := u_ws RX14 TX14 7
theorem nmX14 : ∀ a, a < 7 → ∀ b, b < 7 → a ≠ b → (TX14 a).2.1 ≠ (TX14 b).2.1 := by decide +kernel
theorem tyX14_ok : ∀ k, k < 7 → parseFieldDescriptor (TX14 k).2.2.1 = some (tyX14 k) := by decide +kernel
theorem in_X14 : ∀ w ∈ wsX140, w ∈ lw_all := lw_in wsX140 [1084, 1085, 1086, 1087, 1088, 1097, 1095] (by decide +kernel) (by decide +kernel)
/-! java/util/Arrays -/
def RJ0 : String := "java/util/Arrays"
/-! java/lang/Throwable -/
def RJ1 : String := "java/lang/Throwable"
def TJ1 : u_T := fun k => match k with
  | 0 => ("java/lang/Throwable", "cause", "Ljava/lang/Throwable;", false)
  | 1 => ("java/lang/Throwable", "stackTrace", "[Ljava/lang/StackTraceElement;", false)
  | 2 => ("java/lang/Throwable", "suppressedExceptions", "Ljava/util/List;", false)
  | 3 => ("java/lang/Throwable", "detailMessage", "Ljava/lang/String;", false)
  | _ => ("java/lang/Throwable", "backtrace", "Ljava/lang/Object;", false)
def tyJ1 : Nat → FieldType := fun k => match k with
  | 0 => .object "java/lang/Throwable"
  | 1 => .array (.object "java/lang/StackTraceElement")
  | 2 => .object "java/util/List"
  | 3 => .object "java/lang/String"
  | _ => .object "java/lang/Object"
abbrev wsJ10 : List Cond := u_ws RJ1 TJ1 5
theorem nmJ1 : ∀ a, a < 5 → ∀ b, b < 5 → a ≠ b → (TJ1 a).2.1 ≠ (TJ1 b).2.1 := by decide +kernel
theorem tyJ1_ok : ∀ k, k < 5 → parseFieldDescriptor (TJ1 k).2.2.1 = some (tyJ1 k) := by decide +kernel
theorem in_J1 : ∀ w ∈ wsJ10, w ∈ lw_all := lw_in wsJ10 [360, 361, 362, 363, 364] (by decide +kernel) (by decide +kernel)
/-! java/lang/Exception -/
def RJ2 : String := "java/lang/Exception"
/-! java/lang/RuntimeException -/
def RJ3 : String := "java/lang/RuntimeException"
/-! java/lang/NegativeArraySizeException -/
def RJ4 : String := "java/lang/NegativeArraySizeException"
def TJ4 : u_T := fun k => match k with
  | 0 => ("java/lang/Throwable", "backtrace", "Ljava/lang/Object;", false)
  | 1 => ("java/lang/Throwable", "detailMessage", "Ljava/lang/String;", false)
  | 2 => ("java/lang/Throwable", "cause", "Ljava/lang/Throwable;", false)
  | 3 => ("java/lang/Throwable", "stackTrace", "[Ljava/lang/StackTraceElement;", false)
  | 4 => ("java/lang/Throwable", "depth", "I", false)
  | _ => ("java/lang/Throwable", "suppressedExceptions", "Ljava/util/List;", false)
def tyJ4 : Nat → FieldType := fun k => match k with
  | 0 => .object "java/lang/Object"
  | 1 => .object "java/lang/String"
  | 2 => .object "java/lang/Throwable"
  | 3 => .array (.object "java/lang/StackTraceElement")
  | 4 => .int
  | _ => .object "java/util/List"
abbrev wsJ40 : List Cond := u_ws RJ4 TJ4 6
theorem nmJ4 : ∀ a, a < 6 → ∀ b, b < 6 → a ≠ b → (TJ4 a).2.1 ≠ (TJ4 b).2.1 := by decide +kernel
theorem tyJ4_ok : ∀ k, k < 6 → parseFieldDescriptor (TJ4 k).2.2.1 = some (tyJ4 k) := by decide +kernel
theorem in_J4 : ∀ w ∈ wsJ40, w ∈ lw_all := lw_in wsJ40 [339, 341, 343, 345, 347, 349] (by decide +kernel) (by decide +kernel)
/-! java/lang/String -/
def RJ5 : String := "java/lang/String"
def TJ5 : u_T := fun k => match k with
  | 0 => ("java/lang/String", "value", "[B", true)
  | 1 => ("java/lang/String", "coder", "B", true)
  | 2 => ("java/lang/String", "hash", "I", false)
  | _ => ("java/lang/String", "hashIsZero", "Z", false)
def tyJ5 : Nat → FieldType := fun k => match k with
  | 0 => .array .byte
  | 1 => .byte
  | 2 => .int
  | _ => .boolean
abbrev wsJ50 : List Cond := u_ws RJ5 TJ5 4
theorem nmJ5 : ∀ a, a < 4 → ∀ b, b < 4 → a ≠ b → (TJ5 a).2.1 ≠ (TJ5 b).2.1 := by decide +kernel
theorem tyJ5_ok : ∀ k, k < 4 → parseFieldDescriptor (TJ5 k).2.2.1 = some (tyJ5 k) := by decide +kernel
theorem in_J5 : ∀ w ∈ wsJ50, w ∈ lw_all := lw_in wsJ50 [371, 373, 965, 967] (by decide +kernel) (by decide +kernel)
/-! java/lang/IndexOutOfBoundsException -/
def RJ6 : String := "java/lang/IndexOutOfBoundsException"
/-! java/lang/ArrayIndexOutOfBoundsException -/
def RJ7 : String := "java/lang/ArrayIndexOutOfBoundsException"
def TJ7 : u_T := fun k => match k with
  | 0 => ("java/lang/Throwable", "backtrace", "Ljava/lang/Object;", false)
  | 1 => ("java/lang/Throwable", "detailMessage", "Ljava/lang/String;", false)
  | 2 => ("java/lang/Throwable", "cause", "Ljava/lang/Throwable;", false)
  | 3 => ("java/lang/Throwable", "stackTrace", "[Ljava/lang/StackTraceElement;", false)
  | 4 => ("java/lang/Throwable", "depth", "I", false)
  | _ => ("java/lang/Throwable", "suppressedExceptions", "Ljava/util/List;", false)
def tyJ7 : Nat → FieldType := fun k => match k with
  | 0 => .object "java/lang/Object"
  | 1 => .object "java/lang/String"
  | 2 => .object "java/lang/Throwable"
  | 3 => .array (.object "java/lang/StackTraceElement")
  | 4 => .int
  | _ => .object "java/util/List"
abbrev wsJ70 : List Cond := u_ws RJ7 TJ7 6
theorem nmJ7 : ∀ a, a < 6 → ∀ b, b < 6 → a ≠ b → (TJ7 a).2.1 ≠ (TJ7 b).2.1 := by decide +kernel
theorem tyJ7_ok : ∀ k, k < 6 → parseFieldDescriptor (TJ7 k).2.2.1 = some (tyJ7 k) := by decide +kernel
theorem in_J7 : ∀ w ∈ wsJ70, w ∈ lw_all := lw_in wsJ70 [404, 405, 406, 407, 408, 409] (by decide +kernel) (by decide +kernel)
/-! java/lang/NullPointerException -/
def RJ8 : String := "java/lang/NullPointerException"
def TJ8 : u_T := fun k => match k with
  | 0 => ("java/lang/Throwable", "backtrace", "Ljava/lang/Object;", false)
  | 1 => ("java/lang/Throwable", "detailMessage", "Ljava/lang/String;", false)
  | 2 => ("java/lang/Throwable", "cause", "Ljava/lang/Throwable;", false)
  | 3 => ("java/lang/Throwable", "stackTrace", "[Ljava/lang/StackTraceElement;", false)
  | 4 => ("java/lang/Throwable", "depth", "I", false)
  | 5 => ("java/lang/Throwable", "suppressedExceptions", "Ljava/util/List;", false)
  | 6 => ("java/lang/NullPointerException", "extendedMessageState", "I", false)
  | _ => ("java/lang/NullPointerException", "extendedMessage", "Ljava/lang/String;", false)
def tyJ8 : Nat → FieldType := fun k => match k with
  | 0 => .object "java/lang/Object"
  | 1 => .object "java/lang/String"
  | 2 => .object "java/lang/Throwable"
  | 3 => .array (.object "java/lang/StackTraceElement")
  | 4 => .int
  | 5 => .object "java/util/List"
  | 6 => .int
  | _ => .object "java/lang/String"
abbrev wsJ80 : List Cond := u_ws RJ8 TJ8 8
theorem nmJ8 : ∀ a, a < 8 → ∀ b, b < 8 → a ≠ b → (TJ8 a).2.1 ≠ (TJ8 b).2.1 := by decide +kernel
theorem tyJ8_ok : ∀ k, k < 8 → parseFieldDescriptor (TJ8 k).2.2.1 = some (tyJ8 k) := by decide +kernel
theorem in_J8 : ∀ w ∈ wsJ80, w ∈ lw_all := lw_in wsJ80 [477, 478, 479, 480, 481, 482, 473, 475] (by decide +kernel) (by decide +kernel)
/-! java/lang/ArrayStoreException -/
def RJ9 : String := "java/lang/ArrayStoreException"
def TJ9 : u_T := fun k => match k with
  | 0 => ("java/lang/Throwable", "backtrace", "Ljava/lang/Object;", false)
  | 1 => ("java/lang/Throwable", "detailMessage", "Ljava/lang/String;", false)
  | 2 => ("java/lang/Throwable", "cause", "Ljava/lang/Throwable;", false)
  | 3 => ("java/lang/Throwable", "stackTrace", "[Ljava/lang/StackTraceElement;", false)
  | 4 => ("java/lang/Throwable", "depth", "I", false)
  | _ => ("java/lang/Throwable", "suppressedExceptions", "Ljava/util/List;", false)
def tyJ9 : Nat → FieldType := fun k => match k with
  | 0 => .object "java/lang/Object"
  | 1 => .object "java/lang/String"
  | 2 => .object "java/lang/Throwable"
  | 3 => .array (.object "java/lang/StackTraceElement")
  | 4 => .int
  | _ => .object "java/util/List"
abbrev wsJ90 : List Cond := u_ws RJ9 TJ9 6
theorem nmJ9 : ∀ a, a < 6 → ∀ b, b < 6 → a ≠ b → (TJ9 a).2.1 ≠ (TJ9 b).2.1 := by decide +kernel
theorem tyJ9_ok : ∀ k, k < 6 → parseFieldDescriptor (TJ9 k).2.2.1 = some (tyJ9 k) := by decide +kernel
theorem in_J9 : ∀ w ∈ wsJ90, w ∈ lw_all := lw_in wsJ90 [491, 492, 493, 494, 495, 496] (by decide +kernel) (by decide +kernel)
/-! java/lang/ClassCastException -/
def RJ10 : String := "java/lang/ClassCastException"
def TJ10 : u_T := fun k => match k with
  | 0 => ("java/lang/Throwable", "backtrace", "Ljava/lang/Object;", false)
  | 1 => ("java/lang/Throwable", "detailMessage", "Ljava/lang/String;", false)
  | 2 => ("java/lang/Throwable", "cause", "Ljava/lang/Throwable;", false)
  | 3 => ("java/lang/Throwable", "stackTrace", "[Ljava/lang/StackTraceElement;", false)
  | 4 => ("java/lang/Throwable", "depth", "I", false)
  | _ => ("java/lang/Throwable", "suppressedExceptions", "Ljava/util/List;", false)
def tyJ10 : Nat → FieldType := fun k => match k with
  | 0 => .object "java/lang/Object"
  | 1 => .object "java/lang/String"
  | 2 => .object "java/lang/Throwable"
  | 3 => .array (.object "java/lang/StackTraceElement")
  | 4 => .int
  | _ => .object "java/util/List"
abbrev wsJ100 : List Cond := u_ws RJ10 TJ10 6
theorem nmJ10 : ∀ a, a < 6 → ∀ b, b < 6 → a ≠ b → (TJ10 a).2.1 ≠ (TJ10 b).2.1 := by decide +kernel
theorem tyJ10_ok : ∀ k, k < 6 → parseFieldDescriptor (TJ10 k).2.2.1 = some (tyJ10 k) := by decide +kernel
theorem in_J10 : ∀ w ∈ wsJ100, w ∈ lw_all := lw_in wsJ100 [533, 534, 535, 536, 537, 538] (by decide +kernel) (by decide +kernel)
/-! java/lang/AbstractStringBuilder -/
def RJ11 : String := "java/lang/AbstractStringBuilder"
/-! java/lang/StringBuilder -/
def RJ12 : String := "java/lang/StringBuilder"
def TJ12 : u_T := fun k => match k with
  | 0 => ("java/lang/AbstractStringBuilder", "value", "[B", false)
  | 1 => ("java/lang/AbstractStringBuilder", "coder", "B", false)
  | 2 => ("java/lang/AbstractStringBuilder", "maybeLatin1", "Z", false)
  | _ => ("java/lang/AbstractStringBuilder", "count", "I", false)
def tyJ12 : Nat → FieldType := fun k => match k with
  | 0 => .array .byte
  | 1 => .byte
  | 2 => .boolean
  | _ => .int
abbrev wsJ120 : List Cond := u_ws RJ12 TJ12 4
theorem nmJ12 : ∀ a, a < 4 → ∀ b, b < 4 → a ≠ b → (TJ12 a).2.1 ≠ (TJ12 b).2.1 := by decide +kernel
theorem tyJ12_ok : ∀ k, k < 4 → parseFieldDescriptor (TJ12 k).2.2.1 = some (tyJ12 k) := by decide +kernel
theorem in_J12 : ∀ w ∈ wsJ120, w ∈ lw_all := lw_in wsJ120 [760, 762, 764, 766] (by decide +kernel) (by decide +kernel)
/-! java/lang/StringUTF16 -/
def RJ13 : String := "java/lang/StringUTF16"
/-! jdk/internal/util/ArraysSupport -/
def RJ14 : String := "jdk/internal/util/ArraysSupport"
/-! java/lang/Math -/
def RJ15 : String := "java/lang/Math"
/-! jdk/internal/util/Preconditions -/
def RJ16 : String := "jdk/internal/util/Preconditions"
/-! java/lang/StringLatin1 -/
def RJ17 : String := "java/lang/StringLatin1"
/-! java/lang/Integer -/
def RJ18 : String := "java/lang/Integer"
/-! java/lang/Object -/
def RJ19 : String := "java/lang/Object"
/-! java/lang/System$2 -/
def RJ20 : String := "java/lang/System$2"
