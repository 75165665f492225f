set_option maxRecDepth 100000
def RX1 : String := "ReasonCloser"
def TX1 : u_T := fun k => match k with
  | 0 => ("ReasonCloser", "trouble", "I", false)
  | 1 => ("ReasonCloser", "where", "I", false)
  | 2 => ("ReasonCloser", "tape", "[B", true)
  | 3 => ("ReasonCloser", "taped", "I", false)
  | 4 => ("ReasonCloser", "fault", "I", false)
  | 5 => ("ReasonCloser", "book", "LReasonCloser$Book;", false)
  | 6 => ("ReasonCloser", "now", "LReasonCloser$Reasons;", false)
  | 7 => ("ReasonCloser", "bare", "LReasonCloser$Closed;", false)
  | 8 => ("ReasonCloser", "paper", "LReasonCloser$Closed;", false)
  | 9 => ("ReasonCloser", "actKind", "[I", true)
  | 10 => ("ReasonCloser", "actTrail", "[I", true)
  | 11 => ("ReasonCloser", "actJoins", "[I", true)
  | 12 => ("ReasonCloser", "acts", "I", false)
  | 13 => ("ReasonCloser", "depths", "[I", true)
  | 14 => ("ReasonCloser", "isBy", "[Z", true)
  | 15 => ("ReasonCloser", "lower", "LReasonCloser$Groups;", true)
  | 16 => ("ReasonCloser", "upper", "LReasonCloser$Groups;", true)
  | 17 => ("ReasonCloser", "cost", "[J", true)
  | 18 => ("ReasonCloser", "edge", "[J", true)
  | _ => ("ReasonCloser", "far", "[J", true)
def tyX1 : Nat → FieldType := fun k => match k with
  | 0 => .int
  | 1 => .int
  | 2 => .array .byte
  | 3 => .int
  | 4 => .int
  | 5 => .object "ReasonCloser$Book"
  | 6 => .object "ReasonCloser$Reasons"
  | 7 => .object "ReasonCloser$Closed"
  | 8 => .object "ReasonCloser$Closed"
  | 9 => .array .int
  | 10 => .array .int
  | 11 => .array .int
  | 12 => .int
  | 13 => .array .int
  | 14 => .array .boolean
  | 15 => .object "ReasonCloser$Groups"
  | 16 => .object "ReasonCloser$Groups"
  | 17 => .array .long
  | 18 => .array .long
  | _ => .array .long
abbrev wsX10 : List Cond := u_ws RX1 TX1 20
set_option maxRecDepth 100000 in
theorem nmX1 : ∀ a, a < 20 → ∀ b, b < 20 → a ≠ b → (TX1 a).2.1 ≠ (TX1 b).2.1 := by decide +kernel
set_option maxRecDepth 100000 in
theorem tyX1_ok : ∀ k, k < 20 → parseFieldDescriptor (TX1 k).2.2.1 = some (tyX1 k) := by decide +kernel
set_option maxRecDepth 100000 in
theorem in_X1 : ∀ w ∈ wsX10, w ∈ lw_all := lw_in wsX10 [348, 350, 352, 354, 356, 358, 360, 362, 364, 366, 368, 370, 372, 374, 376, 378, 380, 382, 384, 386] (by decide +kernel) (by decide +kernel)
def RX7 : String := "ReasonCloserModel"
def TX7 : u_T := fun k => match k with
  | 0 => ("ReasonCloserModel", "thrown", "I", false)
  | 1 => ("ReasonCloserModel", "trouble", "I", false)
  | 2 => ("ReasonCloserModel", "fault", "I", false)
  | 3 => ("ReasonCloserModel", "where", "I", false)
  | 4 => ("ReasonCloserModel", "tape", "[I", true)
  | 5 => ("ReasonCloserModel", "taped", "I", false)
  | 6 => ("ReasonCloserModel", "funs", "I", false)
  | 7 => ("ReasonCloserModel", "takes", "[I", true)
  | 8 => ("ReasonCloserModel", "rows", "I", false)
  | 9 => ("ReasonCloserModel", "textRows", "I", false)
  | 10 => ("ReasonCloserModel", "sort", "[I", true)
  | 11 => ("ReasonCloserModel", "told", "[I", true)
  | 12 => ("ReasonCloserModel", "name", "[I", true)
  | 13 => ("ReasonCloserModel", "textLong", "I", false)
  | 14 => ("ReasonCloserModel", "place", "I", false)
  | 15 => ("ReasonCloserModel", "spot", "I", false)
  | 16 => ("ReasonCloserModel", "token", "I", false)
  | 17 => ("ReasonCloserModel", "whole", "I", false)
  | 18 => ("ReasonCloserModel", "readFault", "I", false)
  | 19 => ("ReasonCloserModel", "readPlace", "I", false)
  | 20 => ("ReasonCloserModel", "readFuns", "I", false)
  | 21 => ("ReasonCloserModel", "readTerms", "I", false)
  | 22 => ("ReasonCloserModel", "readSames", "I", false)
  | 23 => ("ReasonCloserModel", "readDiffs", "I", false)
  | 24 => ("ReasonCloserModel", "readRows", "I", false)
  | 25 => ("ReasonCloserModel", "funName", "[I", true)
  | 26 => ("ReasonCloserModel", "named", "I", false)
  | 27 => ("ReasonCloserModel", "terms", "I", false)
  | 28 => ("ReasonCloserModel", "fun", "[I", true)
  | 29 => ("ReasonCloserModel", "part", "[I", true)
  | 30 => ("ReasonCloserModel", "sames", "I", false)
  | 31 => ("ReasonCloserModel", "sameA", "[I", true)
  | 32 => ("ReasonCloserModel", "sameB", "[I", true)
  | 33 => ("ReasonCloserModel", "diffs", "I", false)
  | 34 => ("ReasonCloserModel", "diffA", "[I", true)
  | 35 => ("ReasonCloserModel", "diffB", "[I", true)
  | 36 => ("ReasonCloserModel", "lead", "[I", true)
  | 37 => ("ReasonCloserModel", "hangsOn", "[I", true)
  | 38 => ("ReasonCloserModel", "hangsBy", "[I", true)
  | 39 => ("ReasonCloserModel", "joins", "I", false)
  | 40 => ("ReasonCloserModel", "joinA", "[I", true)
  | 41 => ("ReasonCloserModel", "joinB", "[I", true)
  | 42 => ("ReasonCloserModel", "joinSame", "[I", true)
  | 43 => ("ReasonCloserModel", "joinBits", "[I", true)
  | 44 => ("ReasonCloserModel", "by", "[I", true)
  | 45 => ("ReasonCloserModel", "deep", "[I", true)
  | 46 => ("ReasonCloserModel", "proving", "[Z", true)
  | 47 => ("ReasonCloserModel", "leveled", "[I", true)
  | 48 => ("ReasonCloserModel", "ahead", "[I", true)
  | 49 => ("ReasonCloserModel", "cost", "[J", true)
  | 50 => ("ReasonCloserModel", "side", "[J", true)
  | 51 => ("ReasonCloserModel", "hops", "[I", true)
  | 52 => ("ReasonCloserModel", "isHeld", "Z", false)
  | 53 => ("ReasonCloserModel", "nextA", "[I", true)
  | 54 => ("ReasonCloserModel", "nextB", "[I", true)
  | _ => ("ReasonCloserModel", "nexts", "I", false)
def tyX7 : Nat → FieldType := fun k => match k with
  | 0 => .int
  | 1 => .int
  | 2 => .int
  | 3 => .int
  | 4 => .array .int
  | 5 => .int
  | 6 => .int
  | 7 => .array .int
  | 8 => .int
  | 9 => .int
  | 10 => .array .int
  | 11 => .array .int
  | 12 => .array .int
  | 13 => .int
  | 14 => .int
  | 15 => .int
  | 16 => .int
  | 17 => .int
  | 18 => .int
  | 19 => .int
  | 20 => .int
  | 21 => .int
  | 22 => .int
  | 23 => .int
  | 24 => .int
  | 25 => .array .int
  | 26 => .int
  | 27 => .int
  | 28 => .array .int
  | 29 => .array .int
  | 30 => .int
  | 31 => .array .int
  | 32 => .array .int
  | 33 => .int
  | 34 => .array .int
  | 35 => .array .int
  | 36 => .array .int
  | 37 => .array .int
  | 38 => .array .int
  | 39 => .int
  | 40 => .array .int
  | 41 => .array .int
  | 42 => .array .int
  | 43 => .array .int
  | 44 => .array .int
  | 45 => .array .int
  | 46 => .array .boolean
  | 47 => .array .int
  | 48 => .array .int
  | 49 => .array .long
  | 50 => .array .long
  | 51 => .array .int
  | 52 => .boolean
  | 53 => .array .int
  | 54 => .array .int
  | _ => .int
abbrev wsX70 : List Cond := u_ws RX7 TX7 56
set_option maxRecDepth 100000 in
theorem nmX7 : ∀ a, a < 56 → ∀ b, b < 56 → a ≠ b → (TX7 a).2.1 ≠ (TX7 b).2.1 := by decide +kernel
set_option maxRecDepth 100000 in
theorem tyX7_ok : ∀ k, k < 56 → parseFieldDescriptor (TX7 k).2.2.1 = some (tyX7 k) := by decide +kernel
set_option maxRecDepth 100000 in
theorem in_X7 : ∀ w ∈ wsX70, w ∈ lw_all := lw_in wsX70 [1462, 1464, 1466, 1468, 1470, 1472, 1474, 1476, 1478, 1480, 1482, 1484, 1486, 1488, 1490, 1492, 1494, 1496, 1498, 1500, 1502, 1504, 1506, 1508, 1510, 1512, 1514, 1516, 1518, 1520, 1522, 1524, 1526, 1528, 1530, 1532, 1534, 1536, 1538, 1540, 1542, 1544, 1546, 1548, 1550, 1552, 1554, 1556, 1558, 1560, 1562, 1564, 1566, 1568, 1570, 1572] (by decide +kernel) (by decide +kernel)
def RX2 : String := "ReasonCloser$Book"
def TX2 : u_T := fun k => match k with
  | 0 => ("ReasonCloser$Book", "functions", "Ljava/util/List;", true)
  | 1 => ("ReasonCloser$Book", "terms", "Ljava/util/List;", true)
  | 2 => ("ReasonCloser$Book", "sames", "Ljava/util/List;", true)
  | 3 => ("ReasonCloser$Book", "diffs", "Ljava/util/List;", true)
  | _ => ("ReasonCloser$Book", "order", "Ljava/util/List;", true)
def tyX2 : Nat → FieldType := fun k => match k with
  | 0 => .object "java/util/List"
  | 1 => .object "java/util/List"
  | 2 => .object "java/util/List"
  | 3 => .object "java/util/List"
  | _ => .object "java/util/List"
abbrev wsX20 : List Cond := u_ws RX2 TX2 5
set_option maxRecDepth 100000 in
theorem nmX2 : ∀ a, a < 5 → ∀ b, b < 5 → a ≠ b → (TX2 a).2.1 ≠ (TX2 b).2.1 := by decide +kernel
set_option maxRecDepth 100000 in
theorem tyX2_ok : ∀ k, k < 5 → parseFieldDescriptor (TX2 k).2.2.1 = some (tyX2 k) := by decide +kernel
set_option maxRecDepth 100000 in
theorem in_X2 : ∀ w ∈ wsX20, w ∈ lw_all := lw_in wsX20 [202, 204, 206, 208, 210] (by decide +kernel) (by decide +kernel)
def RX3 : String := "ReasonCloser$Groups"
def TX3 : u_T := fun k => match k with
  | 0 => ("ReasonCloser$Groups", "lead", "[I", true)
  | 1 => ("ReasonCloser$Groups", "many", "I", false)
  | 2 => ("ReasonCloser$Groups", "trail", "[I", false)
  | _ => ("ReasonCloser$Groups", "trailed", "I", false)
def tyX3 : Nat → FieldType := fun k => match k with
  | 0 => .array .int
  | 1 => .int
  | 2 => .array .int
  | _ => .int
abbrev wsX30 : List Cond := u_ws RX3 TX3 4
set_option maxRecDepth 100000 in
theorem nmX3 : ∀ a, a < 4 → ∀ b, b < 4 → a ≠ b → (TX3 a).2.1 ≠ (TX3 b).2.1 := by decide +kernel
set_option maxRecDepth 100000 in
theorem tyX3_ok : ∀ k, k < 4 → parseFieldDescriptor (TX3 k).2.2.1 = some (tyX3 k) := by decide +kernel
set_option maxRecDepth 100000 in
theorem in_X3 : ∀ w ∈ wsX30, w ∈ lw_all := lw_in wsX30 [322, 323, 324, 325] (by decide +kernel) (by decide +kernel)
def RX4 : String := "ReasonCloser$Closed"
def TX4 : u_T := fun k => match k with
  | 0 => ("ReasonCloser$Groups", "lead", "[I", true)
  | 1 => ("ReasonCloser$Groups", "many", "I", false)
  | 2 => ("ReasonCloser$Groups", "trail", "[I", false)
  | 3 => ("ReasonCloser$Groups", "trailed", "I", false)
  | _ => ("ReasonCloser$Closed", "terms", "Ljava/util/List;", true)
def tyX4 : Nat → FieldType := fun k => match k with
  | 0 => .array .int
  | 1 => .int
  | 2 => .array .int
  | 3 => .int
  | _ => .object "java/util/List"
abbrev wsX40 : List Cond := u_ws RX4 TX4 5
set_option maxRecDepth 100000 in
theorem nmX4 : ∀ a, a < 5 → ∀ b, b < 5 → a ≠ b → (TX4 a).2.1 ≠ (TX4 b).2.1 := by decide +kernel
set_option maxRecDepth 100000 in
theorem tyX4_ok : ∀ k, k < 5 → parseFieldDescriptor (TX4 k).2.2.1 = some (tyX4 k) := by decide +kernel
set_option maxRecDepth 100000 in
theorem in_X4 : ∀ w ∈ wsX40, w ∈ lw_all := lw_in wsX40 [311, 312, 313, 314, 310] (by decide +kernel) (by decide +kernel)
def RX6 : String := "ReasonCloser$Reasons"
def TX6 : u_T := fun k => match k with
  | 0 => ("ReasonCloser$Groups", "lead", "[I", true)
  | 1 => ("ReasonCloser$Groups", "many", "I", false)
  | 2 => ("ReasonCloser$Groups", "trail", "[I", false)
  | 3 => ("ReasonCloser$Groups", "trailed", "I", false)
  | 4 => ("ReasonCloser$Closed", "terms", "Ljava/util/List;", true)
  | 5 => ("ReasonCloser$Forest", "up", "[I", true)
  | 6 => ("ReasonCloser$Forest", "by", "[I", true)
  | 7 => ("ReasonCloser$Forest", "first", "[I", true)
  | 8 => ("ReasonCloser$Forest", "second", "[I", true)
  | 9 => ("ReasonCloser$Forest", "cause", "[I", true)
  | 10 => ("ReasonCloser$Forest", "joinMany", "I", false)
  | 11 => ("ReasonCloser$Reasons", "isAbove", "[Z", true)
  | 12 => ("ReasonCloser$Reasons", "isDone", "[Z", true)
  | _ => ("ReasonCloser$Reasons", "set", "I", false)
def tyX6 : Nat → FieldType := fun k => match k with
  | 0 => .array .int
  | 1 => .int
  | 2 => .array .int
  | 3 => .int
  | 4 => .object "java/util/List"
  | 5 => .array .int
  | 6 => .array .int
  | 7 => .array .int
  | 8 => .array .int
  | 9 => .array .int
  | 10 => .int
  | 11 => .array .boolean
  | 12 => .array .boolean
  | _ => .int
abbrev wsX60 : List Cond := u_ws RX6 TX6 14
set_option maxRecDepth 100000 in
theorem nmX6 : ∀ a, a < 14 → ∀ b, b < 14 → a ≠ b → (TX6 a).2.1 ≠ (TX6 b).2.1 := by decide +kernel
set_option maxRecDepth 100000 in
theorem tyX6_ok : ∀ k, k < 14 → parseFieldDescriptor (TX6 k).2.2.1 = some (tyX6 k) := by decide +kernel
set_option maxRecDepth 100000 in
theorem in_X6 : ∀ w ∈ wsX60, w ∈ lw_all := lw_in wsX60 [293, 295, 297, 299, 291, 279, 281, 283, 285, 287, 289, 273, 275, 277] (by decide +kernel) (by decide +kernel)
def RX8 : String := "ReasonCloser$Reader"
def TX8 : u_T := fun k => match k with
  | 0 => ("ReasonCloser$Reader", "size", "I", true)
  | 1 => ("ReasonCloser$Reader", "told", "LReasonCloser$Book;", true)
  | 2 => ("ReasonCloser$Reader", "to", "I", false)
  | 3 => ("ReasonCloser$Reader", "from", "I", false)
  | 4 => ("ReasonCloser$Reader", "sort", "I", false)
  | 5 => ("ReasonCloser$Reader", "value", "I", false)
  | 6 => ("ReasonCloser$Reader", "word", "J", false)
  | _ => ("ReasonCloser$Reader", "this$0", "LReasonCloser;", true)
def tyX8 : Nat → FieldType := fun k => match k with
  | 0 => .int
  | 1 => .object "ReasonCloser$Book"
  | 2 => .int
  | 3 => .int
  | 4 => .int
  | 5 => .int
  | 6 => .long
  | _ => .object "ReasonCloser"
abbrev wsX80 : List Cond := u_ws RX8 TX8 8
set_option maxRecDepth 100000 in
theorem nmX8 : ∀ a, a < 8 → ∀ b, b < 8 → a ≠ b → (TX8 a).2.1 ≠ (TX8 b).2.1 := by decide +kernel
set_option maxRecDepth 100000 in
theorem tyX8_ok : ∀ k, k < 8 → parseFieldDescriptor (TX8 k).2.2.1 = some (tyX8 k) := by decide +kernel
set_option maxRecDepth 100000 in
theorem in_X8 : ∀ w ∈ wsX80, w ∈ lw_all := lw_in wsX80 [426, 428, 430, 432, 434, 436, 438, 440] (by decide +kernel) (by decide +kernel)
def RX9 : String := "ReasonCloser$Fault"
def TX9 : u_T := fun k => match k with
  | 0 => ("java/lang/Throwable", "cause", "Ljava/lang/Throwable;", false)
  | 1 => ("java/lang/Throwable", "stackTrace", "[Ljava/lang/StackTraceElement;", false)
  | 2 => ("java/lang/Throwable", "suppressedExceptions", "Ljava/util/List;", false)
  | 3 => ("java/lang/Throwable", "detailMessage", "Ljava/lang/String;", false)
  | 4 => ("java/lang/Throwable", "backtrace", "Ljava/lang/Object;", false)
  | 5 => ("java/lang/Throwable", "depth", "I", false)
  | 6 => ("ReasonCloser$Fault", "kind", "I", true)
  | _ => ("ReasonCloser$Fault", "place", "I", true)
def tyX9 : Nat → FieldType := fun k => match k with
  | 0 => .object "java/lang/Throwable"
  | 1 => .array (.object "java/lang/StackTraceElement")
  | 2 => .object "java/util/List"
  | 3 => .object "java/lang/String"
  | 4 => .object "java/lang/Object"
  | 5 => .int
  | 6 => .int
  | _ => .int
abbrev wsX90 : List Cond := u_ws RX9 TX9 8
set_option maxRecDepth 100000 in
theorem nmX9 : ∀ a, a < 8 → ∀ b, b < 8 → a ≠ b → (TX9 a).2.1 ≠ (TX9 b).2.1 := by decide +kernel
set_option maxRecDepth 100000 in
theorem tyX9_ok : ∀ k, k < 8 → parseFieldDescriptor (TX9 k).2.2.1 = some (tyX9 k) := by decide +kernel
set_option maxRecDepth 100000 in
theorem in_X9 : ∀ w ∈ wsX90, w ∈ lw_all := lw_in wsX90 [599, 601, 603, 605, 607, 654, 646, 648] (by decide +kernel) (by decide +kernel)
def RX10 : String := "ReasonCloser$Function"
def TX10 : u_T := fun k => match k with
  | 0 => ("ReasonCloser$Function", "name", "J", true)
  | _ => ("ReasonCloser$Function", "takes", "I", true)
def tyX10 : Nat → FieldType := fun k => match k with
  | 0 => .long
  | _ => .int
abbrev wsX100 : List Cond := u_ws RX10 TX10 2
set_option maxRecDepth 100000 in
theorem nmX10 : ∀ a, a < 2 → ∀ b, b < 2 → a ≠ b → (TX10 a).2.1 ≠ (TX10 b).2.1 := by decide +kernel
set_option maxRecDepth 100000 in
theorem tyX10_ok : ∀ k, k < 2 → parseFieldDescriptor (TX10 k).2.2.1 = some (tyX10 k) := by decide +kernel
set_option maxRecDepth 100000 in
theorem in_X10 : ∀ w ∈ wsX100, w ∈ lw_all := lw_in wsX100 [721, 723] (by decide +kernel) (by decide +kernel)
def RX11 : String := "ReasonCloser$Term"
def TX11 : u_T := fun k => match k with
  | 0 => ("ReasonCloser$Term", "name", "J", true)
  | 1 => ("ReasonCloser$Term", "of", "LReasonCloser$Function;", true)
  | 2 => ("ReasonCloser$Term", "function", "I", true)
  | _ => ("ReasonCloser$Term", "parts", "[I", true)
def tyX11 : Nat → FieldType := fun k => match k with
  | 0 => .long
  | 1 => .object "ReasonCloser$Function"
  | 2 => .int
  | _ => .array .int
abbrev wsX110 : List Cond := u_ws RX11 TX11 4
set_option maxRecDepth 100000 in
theorem nmX11 : ∀ a, a < 4 → ∀ b, b < 4 → a ≠ b → (TX11 a).2.1 ≠ (TX11 b).2.1 := by decide +kernel
set_option maxRecDepth 100000 in
theorem tyX11_ok : ∀ k, k < 4 → parseFieldDescriptor (TX11 k).2.2.1 = some (tyX11 k) := by decide +kernel
set_option maxRecDepth 100000 in
theorem in_X11 : ∀ w ∈ wsX110, w ∈ lw_all := lw_in wsX110 [828, 830, 832, 834] (by decide +kernel) (by decide +kernel)
def RX12 : String := "ReasonCloser$Fact"
def TX12 : u_T := fun k => match k with
  | 0 => ("ReasonCloser$Fact", "first", "I", true)
  | _ => ("ReasonCloser$Fact", "second", "I", true)
def tyX12 : Nat → FieldType := fun k => match k with
  | 0 => .int
  | _ => .int
abbrev wsX120 : List Cond := u_ws RX12 TX12 2
set_option maxRecDepth 100000 in
theorem nmX12 : ∀ a, a < 2 → ∀ b, b < 2 → a ≠ b → (TX12 a).2.1 ≠ (TX12 b).2.1 := by decide +kernel
set_option maxRecDepth 100000 in
theorem tyX12_ok : ∀ k, k < 2 → parseFieldDescriptor (TX12 k).2.2.1 = some (tyX12 k) := by decide +kernel
set_option maxRecDepth 100000 in
theorem in_X12 : ∀ w ∈ wsX120, w ∈ lw_all := lw_in wsX120 [868, 870] (by decide +kernel) (by decide +kernel)
def RJ2 : String := "java/util/ArrayList"
def TJ2 : u_T := fun k => match k with
  | 0 => ("java/util/AbstractList", "modCount", "I", false)
  | 1 => ("java/util/ArrayList", "elementData", "[Ljava/lang/Object;", false)
  | _ => ("java/util/ArrayList", "size", "I", false)
def tyJ2 : Nat → FieldType := fun k => match k with
  | 0 => .int
  | 1 => .array (.object "java/lang/Object")
  | _ => .int
abbrev wsJ20 : List Cond := u_ws RJ2 TJ2 3
set_option maxRecDepth 100000 in
theorem nmJ2 : ∀ a, a < 3 → ∀ b, b < 3 → a ≠ b → (TJ2 a).2.1 ≠ (TJ2 b).2.1 := by decide +kernel
set_option maxRecDepth 100000 in
theorem tyJ2_ok : ∀ k, k < 3 → parseFieldDescriptor (TJ2 k).2.2.1 = some (tyJ2 k) := by decide +kernel
set_option maxRecDepth 100000 in
theorem in_J2 : ∀ w ∈ wsJ20, w ∈ lw_all := lw_in wsJ20 [183, 179, 181] (by decide +kernel) (by decide +kernel)
def RJ16 : String := "java/util/ArrayList$Itr"
def TJ16 : u_T := fun k => match k with
  | 0 => ("java/util/ArrayList$Itr", "cursor", "I", false)
  | 1 => ("java/util/ArrayList$Itr", "lastRet", "I", false)
  | 2 => ("java/util/ArrayList$Itr", "expectedModCount", "I", false)
  | _ => ("java/util/ArrayList$Itr", "this$0", "Ljava/util/ArrayList;", true)
def tyJ16 : Nat → FieldType := fun k => match k with
  | 0 => .int
  | 1 => .int
  | 2 => .int
  | _ => .object "java/util/ArrayList"
abbrev wsJ160 : List Cond := u_ws RJ16 TJ16 4
set_option maxRecDepth 100000 in
theorem nmJ16 : ∀ a, a < 4 → ∀ b, b < 4 → a ≠ b → (TJ16 a).2.1 ≠ (TJ16 b).2.1 := by decide +kernel
set_option maxRecDepth 100000 in
theorem tyJ16_ok : ∀ k, k < 4 → parseFieldDescriptor (TJ16 k).2.2.1 = some (tyJ16 k) := by decide +kernel
set_option maxRecDepth 100000 in
theorem in_J16 : ∀ w ∈ wsJ160, w ∈ lw_all := lw_in wsJ160 [892, 894, 896, 898] (by decide +kernel) (by decide +kernel)
def RJ15 : String := "java/lang/Integer"
def TJ15 : u_T := fun k => match k with
  | _ => ("java/lang/Integer", "value", "I", true)
def tyJ15 : Nat → FieldType := fun k => match k with
  | _ => .int
abbrev wsJ150 : List Cond := u_ws RJ15 TJ15 1
set_option maxRecDepth 100000 in
theorem nmJ15 : ∀ a, a < 1 → ∀ b, b < 1 → a ≠ b → (TJ15 a).2.1 ≠ (TJ15 b).2.1 := by decide +kernel
set_option maxRecDepth 100000 in
theorem tyJ15_ok : ∀ k, k < 1 → parseFieldDescriptor (TJ15 k).2.2.1 = some (tyJ15 k) := by decide +kernel
set_option maxRecDepth 100000 in
theorem in_J15 : ∀ w ∈ wsJ150, w ∈ lw_all := lw_in wsJ150 [854] (by decide +kernel) (by decide +kernel)
def RJ18 : String := "java/util/NoSuchElementException"
def TJ18 : u_T := fun k => match k with
  | 0 => ("java/lang/Throwable", "cause", "Ljava/lang/Throwable;", false)
  | 1 => ("java/lang/Throwable", "stackTrace", "[Ljava/lang/StackTraceElement;", false)
  | 2 => ("java/lang/Throwable", "suppressedExceptions", "Ljava/util/List;", false)
  | 3 => ("java/lang/Throwable", "detailMessage", "Ljava/lang/String;", false)
  | 4 => ("java/lang/Throwable", "backtrace", "Ljava/lang/Object;", false)
  | _ => ("java/lang/Throwable", "depth", "I", false)
def tyJ18 : Nat → FieldType := fun k => match k with
  | 0 => .object "java/lang/Throwable"
  | 1 => .array (.object "java/lang/StackTraceElement")
  | 2 => .object "java/util/List"
  | 3 => .object "java/lang/String"
  | 4 => .object "java/lang/Object"
  | _ => .int
abbrev wsJ180 : List Cond := u_ws RJ18 TJ18 6
set_option maxRecDepth 100000 in
theorem nmJ18 : ∀ a, a < 6 → ∀ b, b < 6 → a ≠ b → (TJ18 a).2.1 ≠ (TJ18 b).2.1 := by decide +kernel
set_option maxRecDepth 100000 in
theorem tyJ18_ok : ∀ k, k < 6 → parseFieldDescriptor (TJ18 k).2.2.1 = some (tyJ18 k) := by decide +kernel
set_option maxRecDepth 100000 in
theorem in_J18 : ∀ w ∈ wsJ180, w ∈ lw_all := lw_in wsJ180 [930, 931, 932, 933, 934, 945] (by decide +kernel) (by decide +kernel)
