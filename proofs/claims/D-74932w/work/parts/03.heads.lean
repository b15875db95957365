set_option maxRecDepth 100000
def RJ0 : String := "java/util/AbstractCollection"
def RJ1 : String := "java/util/AbstractList"
def RJ2 : String := "java/util/ArrayList"
def TJ2 : u_T := fun k => match k with
  | 0 => ("java/util/AbstractList", "modCount", "I", false)
  | 1 => ("java/util/ArrayList", "elementData", "[Ljava/lang/Object;", false)
  | _ => ("java/util/ArrayList", "size", "I", false)
def tyJ2 : Nat → FieldType := fun k => match k with
  | 0 => .int
  | 1 => .array (.object "java/lang/Object")
  | _ => .int
abbrev wsJ20 : List Cond := u_ws RJ2 TJ2 3
theorem nmJ2 : ∀ a, a < 3 → ∀ b, b < 3 → a ≠ b → (TJ2 a).2.1 ≠ (TJ2 b).2.1 := by decide +kernel
theorem tyJ2_ok : ∀ k, k < 3 → parseFieldDescriptor (TJ2 k).2.2.1 = some (tyJ2 k) := by decide +kernel
theorem in_J2 : ∀ w ∈ wsJ20, w ∈ lw_all := lw_in wsJ20 [479, 475, 477] (by decide +kernel) (by decide +kernel)
def RJ3 : String := "java/lang/Throwable"
def TJ3 : u_T := fun k => match k with
  | 0 => ("java/lang/Throwable", "cause", "Ljava/lang/Throwable;", false)
  | 1 => ("java/lang/Throwable", "stackTrace", "[Ljava/lang/StackTraceElement;", false)
  | 2 => ("java/lang/Throwable", "suppressedExceptions", "Ljava/util/List;", false)
  | 3 => ("java/lang/Throwable", "detailMessage", "Ljava/lang/String;", false)
  | _ => ("java/lang/Throwable", "backtrace", "Ljava/lang/Object;", false)
def tyJ3 : Nat → FieldType := fun k => match k with
  | 0 => .object "java/lang/Throwable"
  | 1 => .array (.object "java/lang/StackTraceElement")
  | 2 => .object "java/util/List"
  | 3 => .object "java/lang/String"
  | _ => .object "java/lang/Object"
abbrev wsJ30 : List Cond := u_ws RJ3 TJ3 5
theorem nmJ3 : ∀ a, a < 5 → ∀ b, b < 5 → a ≠ b → (TJ3 a).2.1 ≠ (TJ3 b).2.1 := by decide +kernel
theorem tyJ3_ok : ∀ k, k < 5 → parseFieldDescriptor (TJ3 k).2.2.1 = some (tyJ3 k) := by decide +kernel
theorem in_J3 : ∀ w ∈ wsJ30, w ∈ lw_all := lw_in wsJ30 [168, 170, 172, 174, 176] (by decide +kernel) (by decide +kernel)
def RJ4 : String := "java/lang/Exception"
def RJ5 : String := "java/lang/RuntimeException"
def RJ6 : String := "java/lang/IllegalArgumentException"
def TJ6 : u_T := fun k => match k with
  | 0 => ("java/lang/Throwable", "cause", "Ljava/lang/Throwable;", false)
  | 1 => ("java/lang/Throwable", "stackTrace", "[Ljava/lang/StackTraceElement;", false)
  | 2 => ("java/lang/Throwable", "suppressedExceptions", "Ljava/util/List;", false)
  | 3 => ("java/lang/Throwable", "detailMessage", "Ljava/lang/String;", false)
  | 4 => ("java/lang/Throwable", "backtrace", "Ljava/lang/Object;", false)
  | _ => ("java/lang/Throwable", "depth", "I", false)
def tyJ6 : Nat → FieldType := fun k => match k with
  | 0 => .object "java/lang/Throwable"
  | 1 => .array (.object "java/lang/StackTraceElement")
  | 2 => .object "java/util/List"
  | 3 => .object "java/lang/String"
  | 4 => .object "java/lang/Object"
  | _ => .int
abbrev wsJ60 : List Cond := u_ws RJ6 TJ6 6
theorem nmJ6 : ∀ a, a < 6 → ∀ b, b < 6 → a ≠ b → (TJ6 a).2.1 ≠ (TJ6 b).2.1 := by decide +kernel
theorem tyJ6_ok : ∀ k, k < 6 → parseFieldDescriptor (TJ6 k).2.2.1 = some (tyJ6 k) := by decide +kernel
theorem in_J6 : ∀ w ∈ wsJ60, w ∈ lw_all := lw_in wsJ60 [167, 169, 171, 173, 175, 441] (by decide +kernel) (by decide +kernel)
def RJ7 : String := "java/lang/AbstractStringBuilder"
def RJ8 : String := "java/lang/StringBuilder"
def TJ8 : u_T := fun k => match k with
  | 0 => ("java/lang/AbstractStringBuilder", "value", "[B", false)
  | 1 => ("java/lang/AbstractStringBuilder", "coder", "B", false)
  | 2 => ("java/lang/AbstractStringBuilder", "maybeLatin1", "Z", false)
  | _ => ("java/lang/AbstractStringBuilder", "count", "I", false)
def tyJ8 : Nat → FieldType := fun k => match k with
  | 0 => .array .byte
  | 1 => .byte
  | 2 => .boolean
  | _ => .int
abbrev wsJ80 : List Cond := u_ws RJ8 TJ8 4
theorem nmJ8 : ∀ a, a < 4 → ∀ b, b < 4 → a ≠ b → (TJ8 a).2.1 ≠ (TJ8 b).2.1 := by decide +kernel
theorem tyJ8_ok : ∀ k, k < 4 → parseFieldDescriptor (TJ8 k).2.2.1 = some (tyJ8 k) := by decide +kernel
theorem in_J8 : ∀ w ∈ wsJ80, w ∈ lw_all := lw_in wsJ80 [221, 223, 225, 227] (by decide +kernel) (by decide +kernel)
def RJ9 : String := "java/lang/String"
def TJ9 : u_T := fun k => match k with
  | 0 => ("java/lang/String", "value", "[B", true)
  | 1 => ("java/lang/String", "coder", "B", true)
  | 2 => ("java/lang/String", "hash", "I", false)
  | _ => ("java/lang/String", "hashIsZero", "Z", false)
def tyJ9 : Nat → FieldType := fun k => match k with
  | 0 => .array .byte
  | 1 => .byte
  | 2 => .int
  | _ => .boolean
abbrev wsJ90 : List Cond := u_ws RJ9 TJ9 4
theorem nmJ9 : ∀ a, a < 4 → ∀ b, b < 4 → a ≠ b → (TJ9 a).2.1 ≠ (TJ9 b).2.1 := by decide +kernel
theorem tyJ9_ok : ∀ k, k < 4 → parseFieldDescriptor (TJ9 k).2.2.1 = some (tyJ9 k) := by decide +kernel
theorem in_J9 : ∀ w ∈ wsJ90, w ∈ lw_all := lw_in wsJ90 [460, 462, 464, 466] (by decide +kernel) (by decide +kernel)
def RJ10 : String := "java/lang/StringUTF16"
def RJ11 : String := "jdk/internal/util/ArraysSupport"
def RJ12 : String := "java/lang/Math"
def RJ13 : String := "java/util/Arrays"
def RJ14 : String := "jdk/internal/util/Preconditions"
def RJ15 : String := "java/lang/StringLatin1"
def RJ16 : String := "java/lang/Integer"
def RJ17 : String := "java/util/Objects"
def RJ18 : String := "java/lang/IndexOutOfBoundsException"
def TJ18 : u_T := fun k => match k with
  | 0 => ("java/lang/Throwable", "cause", "Ljava/lang/Throwable;", false)
  | 1 => ("java/lang/Throwable", "stackTrace", "[Ljava/lang/StackTraceElement;", false)
  | 2 => ("java/lang/Throwable", "suppressedExceptions", "Ljava/util/List;", false)
  | 3 => ("java/lang/Throwable", "detailMessage", "Ljava/lang/String;", false)
  | 4 => ("java/lang/Throwable", "backtrace", "Ljava/lang/Object;", false)
  | _ => ("java/lang/Throwable", "depth", "I", false)
def tyJ18 : Nat → FieldType := fun k => match k with
  | 0 => .object "java/lang/Throwable"
  | 1 => .array (.object "java/lang/StackTraceElement")
  | 2 => .object "java/util/List"
  | 3 => .object "java/lang/String"
  | 4 => .object "java/lang/Object"
  | _ => .int
abbrev wsJ180 : List Cond := u_ws RJ18 TJ18 6
theorem nmJ18 : ∀ a, a < 6 → ∀ b, b < 6 → a ≠ b → (TJ18 a).2.1 ≠ (TJ18 b).2.1 := by decide +kernel
theorem tyJ18_ok : ∀ k, k < 6 → parseFieldDescriptor (TJ18 k).2.2.1 = some (tyJ18 k) := by decide +kernel
theorem in_J18 : ∀ w ∈ wsJ180, w ∈ lw_all := lw_in wsJ180 [1554, 1555, 1556, 1557, 1558, 1569] (by decide +kernel) (by decide +kernel)
def RJ19 : String := "java/lang/ArrayIndexOutOfBoundsException"
def TJ19 : u_T := fun k => match k with
  | 0 => ("java/lang/Throwable", "backtrace", "Ljava/lang/Object;", false)
  | 1 => ("java/lang/Throwable", "detailMessage", "Ljava/lang/String;", false)
  | 2 => ("java/lang/Throwable", "cause", "Ljava/lang/Throwable;", false)
  | 3 => ("java/lang/Throwable", "stackTrace", "[Ljava/lang/StackTraceElement;", false)
  | 4 => ("java/lang/Throwable", "depth", "I", false)
  | _ => ("java/lang/Throwable", "suppressedExceptions", "Ljava/util/List;", false)
def tyJ19 : Nat → FieldType := fun k => match k with
  | 0 => .object "java/lang/Object"
  | 1 => .object "java/lang/String"
  | 2 => .object "java/lang/Throwable"
  | 3 => .array (.object "java/lang/StackTraceElement")
  | 4 => .int
  | _ => .object "java/util/List"
abbrev wsJ190 : List Cond := u_ws RJ19 TJ19 6
theorem nmJ19 : ∀ a, a < 6 → ∀ b, b < 6 → a ≠ b → (TJ19 a).2.1 ≠ (TJ19 b).2.1 := by decide +kernel
theorem tyJ19_ok : ∀ k, k < 6 → parseFieldDescriptor (TJ19 k).2.2.1 = some (tyJ19 k) := by decide +kernel
theorem in_J19 : ∀ w ∈ wsJ190, w ∈ lw_all := lw_in wsJ190 [1534, 1535, 1536, 1537, 1538, 1539] (by decide +kernel) (by decide +kernel)
def RJ20 : String := "java/lang/IllegalStateException"
def TJ20 : u_T := fun k => match k with
  | 0 => ("java/lang/Throwable", "cause", "Ljava/lang/Throwable;", false)
  | 1 => ("java/lang/Throwable", "stackTrace", "[Ljava/lang/StackTraceElement;", false)
  | 2 => ("java/lang/Throwable", "suppressedExceptions", "Ljava/util/List;", false)
  | 3 => ("java/lang/Throwable", "detailMessage", "Ljava/lang/String;", false)
  | 4 => ("java/lang/Throwable", "backtrace", "Ljava/lang/Object;", false)
  | _ => ("java/lang/Throwable", "depth", "I", false)
def tyJ20 : Nat → FieldType := fun k => match k with
  | 0 => .object "java/lang/Throwable"
  | 1 => .array (.object "java/lang/StackTraceElement")
  | 2 => .object "java/util/List"
  | 3 => .object "java/lang/String"
  | 4 => .object "java/lang/Object"
  | _ => .int
abbrev wsJ200 : List Cond := u_ws RJ20 TJ20 6
theorem nmJ20 : ∀ a, a < 6 → ∀ b, b < 6 → a ≠ b → (TJ20 a).2.1 ≠ (TJ20 b).2.1 := by decide +kernel
theorem tyJ20_ok : ∀ k, k < 6 → parseFieldDescriptor (TJ20 k).2.2.1 = some (tyJ20 k) := by decide +kernel
theorem in_J20 : ∀ w ∈ wsJ200, w ∈ lw_all := lw_in wsJ200 [1613, 1614, 1615, 1616, 1617, 1622] (by decide +kernel) (by decide +kernel)
def RJ21 : String := "java/lang/Object"
def RX0 : String := "ScaleInspectionLaw"
def RX1 : String := "ScaleInspection"
def TX1 : u_T := fun k => match k with
  | 0 => ("ScaleInspection", "buffer", "[B", true)
  | 1 => ("ScaleInspection", "bufferLength", "I", false)
  | 2 => ("ScaleInspection", "errorPosition", "I", false)
  | 3 => ("ScaleInspection", "market", "LScaleInspection$Market;", false)
  | 4 => ("ScaleInspection", "entry", "LScaleInspection$Entry;", false)
  | 5 => ("ScaleInspection", "history", "Ljava/util/ArrayList;", true)
  | 6 => ("ScaleInspection", "snapshots", "[LScaleInspection$Entry;", true)
  | 7 => ("ScaleInspection", "bestRight0", "I", false)
  | 8 => ("ScaleInspection", "bestLeft0", "I", false)
  | _ => ("ScaleInspection", "solvers", "[LScaleInspection$Solver;", true)
def tyX1 : Nat → FieldType := fun k => match k with
  | 0 => .array .byte
  | 1 => .int
  | 2 => .int
  | 3 => .object "ScaleInspection$Market"
  | 4 => .object "ScaleInspection$Entry"
  | 5 => .object "java/util/ArrayList"
  | 6 => .array (.object "ScaleInspection$Entry")
  | 7 => .int
  | 8 => .int
  | _ => .array (.object "ScaleInspection$Solver")
abbrev wsX10 : List Cond := u_ws RX1 TX1 10
theorem nmX1 : ∀ a, a < 10 → ∀ b, b < 10 → a ≠ b → (TX1 a).2.1 ≠ (TX1 b).2.1 := by decide +kernel
theorem tyX1_ok : ∀ k, k < 10 → parseFieldDescriptor (TX1 k).2.2.1 = some (tyX1 k) := by decide +kernel
theorem in_X1 : ∀ w ∈ wsX10, w ∈ lw_all := lw_in wsX10 [546, 548, 550, 552, 554, 556, 558, 560, 562, 564] (by decide +kernel) (by decide +kernel)
def RX2 : String := "ScaleInspection$Market"
def TX2 : u_T := fun k => match k with
  | 0 => ("ScaleInspection$Market", "scales", "Ljava/util/ArrayList;", true)
  | 1 => ("ScaleInspection$Market", "sets", "Ljava/util/ArrayList;", true)
  | 2 => ("ScaleInspection$Market", "masses", "[I", true)
  | 3 => ("ScaleInspection$Market", "terms", "[I", true)
  | 4 => ("ScaleInspection$Market", "traders", "I", false)
  | _ => ("ScaleInspection$Market", "massCount", "I", false)
def tyX2 : Nat → FieldType := fun k => match k with
  | 0 => .object "java/util/ArrayList"
  | 1 => .object "java/util/ArrayList"
  | 2 => .array .int
  | 3 => .array .int
  | 4 => .int
  | _ => .int
abbrev wsX20 : List Cond := u_ws RX2 TX2 6
theorem nmX2 : ∀ a, a < 6 → ∀ b, b < 6 → a ≠ b → (TX2 a).2.1 ≠ (TX2 b).2.1 := by decide +kernel
theorem tyX2_ok : ∀ k, k < 6 → parseFieldDescriptor (TX2 k).2.2.1 = some (tyX2 k) := by decide +kernel
theorem in_X2 : ∀ w ∈ wsX20, w ∈ lw_all := lw_in wsX20 [499, 501, 503, 505, 507, 509] (by decide +kernel) (by decide +kernel)
def RX3 : String := "ScaleInspection$Entry"
def TX3 : u_T := fun k => match k with
  | 0 => ("ScaleInspection$Entry", "visits", "Ljava/util/ArrayList;", true)
  | _ => ("ScaleInspection$Entry", "sets", "Ljava/util/ArrayList;", true)
def tyX3 : Nat → FieldType := fun k => match k with
  | 0 => .object "java/util/ArrayList"
  | _ => .object "java/util/ArrayList"
abbrev wsX30 : List Cond := u_ws RX3 TX3 2
theorem nmX3 : ∀ a, a < 2 → ∀ b, b < 2 → a ≠ b → (TX3 a).2.1 ≠ (TX3 b).2.1 := by decide +kernel
theorem tyX3_ok : ∀ k, k < 2 → parseFieldDescriptor (TX3 k).2.2.1 = some (tyX3 k) := by decide +kernel
theorem in_X3 : ∀ w ∈ wsX30, w ∈ lw_all := lw_in wsX30 [525, 527] (by decide +kernel) (by decide +kernel)
def RX4 : String := "ScaleInspectionModel"
def TX4 : u_T := fun k => match k with
  | 0 => ("ScaleInspectionModel", "thrown", "I", false)
  | 1 => ("ScaleInspectionModel", "now", "[I", true)
  | 2 => ("ScaleInspectionModel", "traders", "I", false)
  | 3 => ("ScaleInspectionModel", "scales", "I", false)
  | 4 => ("ScaleInspectionModel", "scaleTrader", "[I", true)
  | 5 => ("ScaleInspectionModel", "scaleClass", "[I", true)
  | 6 => ("ScaleInspectionModel", "division", "[I", true)
  | 7 => ("ScaleInspectionModel", "capacity", "[I", true)
  | 8 => ("ScaleInspectionModel", "masses", "I", false)
  | 9 => ("ScaleInspectionModel", "mass", "[I", true)
  | 10 => ("ScaleInspectionModel", "sets", "I", false)
  | 11 => ("ScaleInspectionModel", "weights", "[I", true)
  | 12 => ("ScaleInspectionModel", "isMaybe", "[Z", true)
  | 13 => ("ScaleInspectionModel", "term", "[I", true)
  | 14 => ("ScaleInspectionModel", "text", "[B", true)
  | 15 => ("ScaleInspectionModel", "length", "I", false)
  | 16 => ("ScaleInspectionModel", "textSize", "I", false)
  | 17 => ("ScaleInspectionModel", "start", "I", false)
  | 18 => ("ScaleInspectionModel", "next", "I", false)
  | 19 => ("ScaleInspectionModel", "token", "I", false)
  | 20 => ("ScaleInspectionModel", "value", "I", false)
  | 21 => ("ScaleInspectionModel", "error", "I", false)
  | 22 => ("ScaleInspectionModel", "errorAt", "I", false)
  | 23 => ("ScaleInspectionModel", "number", "I", false)
  | 24 => ("ScaleInspectionModel", "draftTraders", "I", false)
  | 25 => ("ScaleInspectionModel", "draftScales", "I", false)
  | 26 => ("ScaleInspectionModel", "draftTrader", "[I", true)
  | 27 => ("ScaleInspectionModel", "draftClass", "[I", true)
  | 28 => ("ScaleInspectionModel", "draftDivision", "[I", true)
  | 29 => ("ScaleInspectionModel", "draftCapacity", "[I", true)
  | 30 => ("ScaleInspectionModel", "draftMasses", "I", false)
  | 31 => ("ScaleInspectionModel", "draftMass", "[I", true)
  | 32 => ("ScaleInspectionModel", "draftSets", "I", false)
  | 33 => ("ScaleInspectionModel", "draftWeights", "[I", true)
  | 34 => ("ScaleInspectionModel", "draftMaybe", "[Z", true)
  | 35 => ("ScaleInspectionModel", "draftTerm", "[I", true)
  | 36 => ("ScaleInspectionModel", "sums", "[I", true)
  | 37 => ("ScaleInspectionModel", "risks", "[I", true)
  | 38 => ("ScaleInspectionModel", "one", "[I", true)
  | 39 => ("ScaleInspectionModel", "both", "[I", true)
  | 40 => ("ScaleInspectionModel", "bestRight", "I", false)
  | 41 => ("ScaleInspectionModel", "undos", "I", false)
  | 42 => ("ScaleInspectionModel", "undo", "[I", true)
  | 43 => ("ScaleInspectionModel", "slots", "[I", true)
  | _ => ("ScaleInspectionModel", "isSaved", "[Z", true)
def tyX4 : Nat → FieldType := fun k => match k with
  | 0 => .int
  | 1 => .array .int
  | 2 => .int
  | 3 => .int
  | 4 => .array .int
  | 5 => .array .int
  | 6 => .array .int
  | 7 => .array .int
  | 8 => .int
  | 9 => .array .int
  | 10 => .int
  | 11 => .array .int
  | 12 => .array .boolean
  | 13 => .array .int
  | 14 => .array .byte
  | 15 => .int
  | 16 => .int
  | 17 => .int
  | 18 => .int
  | 19 => .int
  | 20 => .int
  | 21 => .int
  | 22 => .int
  | 23 => .int
  | 24 => .int
  | 25 => .int
  | 26 => .array .int
  | 27 => .array .int
  | 28 => .array .int
  | 29 => .array .int
  | 30 => .int
  | 31 => .array .int
  | 32 => .int
  | 33 => .array .int
  | 34 => .array .boolean
  | 35 => .array .int
  | 36 => .array .int
  | 37 => .array .int
  | 38 => .array .int
  | 39 => .array .int
  | 40 => .int
  | 41 => .int
  | 42 => .array .int
  | 43 => .array .int
  | _ => .array .boolean
abbrev wsX40 : List Cond := u_ws RX4 TX4 45
set_option maxRecDepth 100000 in
theorem nmX4 : ∀ a, a < 45 → ∀ b, b < 45 → a ≠ b → (TX4 a).2.1 ≠ (TX4 b).2.1 := by decide +kernel
set_option maxRecDepth 100000 in
theorem tyX4_ok : ∀ k, k < 45 → parseFieldDescriptor (TX4 k).2.2.1 = some (tyX4 k) := by decide +kernel
theorem in_X4 : ∀ w ∈ wsX40, w ∈ lw_all := lw_in wsX40 [1679, 1681, 1683, 1685, 1687, 1689, 1691, 1693, 1695, 1697, 1699, 1701, 1703, 1705, 1707, 1709, 1711, 1713, 1715, 1717, 1719, 1721, 1723, 1725, 1727, 1729, 1731, 1733, 1735, 1737, 1739, 1741, 1743, 1745, 1747, 1749, 1751, 1753, 1755, 1757, 1759, 1761, 1763, 1765, 1767] (by decide +kernel) (by decide +kernel)
def RX5 : String := "ScaleInspection$Parser"
def TX5 : u_T := fun k => match k with
  | 0 => ("ScaleInspection$Parser", "length", "I", true)
  | 1 => ("ScaleInspection$Parser", "market", "LScaleInspection$Market;", true)
  | 2 => ("ScaleInspection$Parser", "knownTerms", "I", false)
  | 3 => ("ScaleInspection$Parser", "token", "LScaleInspection$Token;", false)
  | _ => ("ScaleInspection$Parser", "this$0", "LScaleInspection;", true)
def tyX5 : Nat → FieldType := fun k => match k with
  | 0 => .int
  | 1 => .object "ScaleInspection$Market"
  | 2 => .int
  | 3 => .object "ScaleInspection$Token"
  | _ => .object "ScaleInspection"
abbrev wsX50 : List Cond := u_ws RX5 TX5 5
theorem nmX5 : ∀ a, a < 5 → ∀ b, b < 5 → a ≠ b → (TX5 a).2.1 ≠ (TX5 b).2.1 := by decide +kernel
theorem tyX5_ok : ∀ k, k < 5 → parseFieldDescriptor (TX5 k).2.2.1 = some (tyX5 k) := by decide +kernel
theorem in_X5 : ∀ w ∈ wsX50, w ∈ lw_all := lw_in wsX50 [682, 684, 686, 688, 690] (by decide +kernel) (by decide +kernel)
def RX6 : String := "ScaleInspection$Token"
def RX7 : String := "ScaleInspection$Sign"
def TX7 : u_T := fun k => match k with
  | 0 => ("ScaleInspection$Token", "position", "I", true)
  | 1 => ("ScaleInspection$Token", "next", "I", true)
  | _ => ("ScaleInspection$Sign", "kind", "I", true)
def tyX7 : Nat → FieldType := fun k => match k with
  | 0 => .int
  | 1 => .int
  | _ => .int
abbrev wsX70 : List Cond := u_ws RX7 TX7 3
theorem nmX7 : ∀ a, a < 3 → ∀ b, b < 3 → a ≠ b → (TX7 a).2.1 ≠ (TX7 b).2.1 := by decide +kernel
theorem tyX7_ok : ∀ k, k < 3 → parseFieldDescriptor (TX7 k).2.2.1 = some (tyX7 k) := by decide +kernel
theorem in_X7 : ∀ w ∈ wsX70, w ∈ lw_all := lw_in wsX70 [645, 647, 643] (by decide +kernel) (by decide +kernel)
def RX8 : String := "ScaleInspection$Word"
def TX8 : u_T := fun k => match k with
  | 0 => ("ScaleInspection$Token", "position", "I", true)
  | 1 => ("ScaleInspection$Token", "next", "I", true)
  | _ => ("ScaleInspection$Word", "text", "Ljava/lang/String;", true)
def tyX8 : Nat → FieldType := fun k => match k with
  | 0 => .int
  | 1 => .int
  | _ => .object "java/lang/String"
abbrev wsX80 : List Cond := u_ws RX8 TX8 3
theorem nmX8 : ∀ a, a < 3 → ∀ b, b < 3 → a ≠ b → (TX8 a).2.1 ≠ (TX8 b).2.1 := by decide +kernel
theorem tyX8_ok : ∀ k, k < 3 → parseFieldDescriptor (TX8 k).2.2.1 = some (tyX8 k) := by decide +kernel
theorem in_X8 : ∀ w ∈ wsX80, w ∈ lw_all := lw_in wsX80 [660, 661, 658] (by decide +kernel) (by decide +kernel)
def RX9 : String := "ScaleInspection$Amount"
def TX9 : u_T := fun k => match k with
  | 0 => ("ScaleInspection$Token", "position", "I", true)
  | 1 => ("ScaleInspection$Token", "next", "I", true)
  | _ => ("ScaleInspection$Amount", "value", "I", true)
def tyX9 : Nat → FieldType := fun k => match k with
  | 0 => .int
  | 1 => .int
  | _ => .int
abbrev wsX90 : List Cond := u_ws RX9 TX9 3
theorem nmX9 : ∀ a, a < 3 → ∀ b, b < 3 → a ≠ b → (TX9 a).2.1 ≠ (TX9 b).2.1 := by decide +kernel
theorem tyX9_ok : ∀ k, k < 3 → parseFieldDescriptor (TX9 k).2.2.1 = some (tyX9 k) := by decide +kernel
theorem in_X9 : ∀ w ∈ wsX90, w ∈ lw_all := lw_in wsX90 [674, 675, 672] (by decide +kernel) (by decide +kernel)
def RX10 : String := "ScaleInspection$ParseException"
def TX10 : u_T := fun k => match k with
  | 0 => ("java/lang/Throwable", "cause", "Ljava/lang/Throwable;", false)
  | 1 => ("java/lang/Throwable", "stackTrace", "[Ljava/lang/StackTraceElement;", false)
  | 2 => ("java/lang/Throwable", "suppressedExceptions", "Ljava/util/List;", false)
  | 3 => ("java/lang/Throwable", "detailMessage", "Ljava/lang/String;", false)
  | 4 => ("java/lang/Throwable", "backtrace", "Ljava/lang/Object;", false)
  | 5 => ("java/lang/Throwable", "depth", "I", false)
  | 6 => ("ScaleInspection$ParseException", "code", "I", true)
  | _ => ("ScaleInspection$ParseException", "position", "I", true)
def tyX10 : Nat → FieldType := fun k => match k with
  | 0 => .object "java/lang/Throwable"
  | 1 => .array (.object "java/lang/StackTraceElement")
  | 2 => .object "java/util/List"
  | 3 => .object "java/lang/String"
  | 4 => .object "java/lang/Object"
  | 5 => .int
  | 6 => .int
  | _ => .int
abbrev wsX100 : List Cond := u_ws RX10 TX10 8
theorem nmX10 : ∀ a, a < 8 → ∀ b, b < 8 → a ≠ b → (TX10 a).2.1 ≠ (TX10 b).2.1 := by decide +kernel
theorem tyX10_ok : ∀ k, k < 8 → parseFieldDescriptor (TX10 k).2.2.1 = some (tyX10 k) := by decide +kernel
theorem in_X10 : ∀ w ∈ wsX100, w ∈ lw_all := lw_in wsX100 [740, 741, 742, 743, 744, 762, 758, 760] (by decide +kernel) (by decide +kernel)
def RX11 : String := "ScaleInspection$Scale"
def TX11 : u_T := fun k => match k with
  | 0 => ("ScaleInspection$Scale", "trader", "I", true)
  | 1 => ("ScaleInspection$Scale", "accuracy", "I", true)
  | 2 => ("ScaleInspection$Scale", "division", "I", true)
  | 3 => ("ScaleInspection$Scale", "capacity", "I", true)
  | _ => ("ScaleInspection$Scale", "accuracyClass", "LScaleInspection$AccuracyClass;", true)
def tyX11 : Nat → FieldType := fun k => match k with
  | 0 => .int
  | 1 => .int
  | 2 => .int
  | 3 => .int
  | _ => .object "ScaleInspection$AccuracyClass"
abbrev wsX110 : List Cond := u_ws RX11 TX11 5
theorem nmX11 : ∀ a, a < 5 → ∀ b, b < 5 → a ≠ b → (TX11 a).2.1 ≠ (TX11 b).2.1 := by decide +kernel
theorem tyX11_ok : ∀ k, k < 5 → parseFieldDescriptor (TX11 k).2.2.1 = some (tyX11 k) := by decide +kernel
theorem in_X11 : ∀ w ∈ wsX110, w ∈ lw_all := lw_in wsX110 [825, 827, 829, 831, 833] (by decide +kernel) (by decide +kernel)
def RX12 : String := "ScaleInspection$AccuracyClass"
def RX13 : String := "ScaleInspection$WeightSet"
def TX13 : u_T := fun k => match k with
  | 0 => ("ScaleInspection$WeightSet", "count", "I", true)
  | _ => ("ScaleInspection$WeightSet", "canBeGenuine", "Z", true)
def tyX13 : Nat → FieldType := fun k => match k with
  | 0 => .int
  | _ => .boolean
abbrev wsX130 : List Cond := u_ws RX13 TX13 2
theorem nmX13 : ∀ a, a < 2 → ∀ b, b < 2 → a ≠ b → (TX13 a).2.1 ≠ (TX13 b).2.1 := by decide +kernel
theorem tyX13_ok : ∀ k, k < 2 → parseFieldDescriptor (TX13 k).2.2.1 = some (tyX13 k) := by decide +kernel
theorem in_X13 : ∀ w ∈ wsX130, w ∈ lw_all := lw_in wsX130 [917, 919] (by decide +kernel) (by decide +kernel)
def RX14 : String := "ScaleInspection$Hypotheses"
def TX14 : u_T := fun k => match k with
  | 0 => ("ScaleInspection$Hypotheses", "heavy", "I", true)
  | 1 => ("ScaleInspection$Hypotheses", "light", "I", true)
  | 2 => ("ScaleInspection$Hypotheses", "weighings", "I", true)
  | _ => ("ScaleInspection$Hypotheses", "genuine", "Z", true)
def tyX14 : Nat → FieldType := fun k => match k with
  | 0 => .int
  | 1 => .int
  | 2 => .int
  | _ => .boolean
abbrev wsX140 : List Cond := u_ws RX14 TX14 4
theorem nmX14 : ∀ a, a < 4 → ∀ b, b < 4 → a ≠ b → (TX14 a).2.1 ≠ (TX14 b).2.1 := by decide +kernel
theorem tyX14_ok : ∀ k, k < 4 → parseFieldDescriptor (TX14 k).2.2.1 = some (tyX14 k) := by decide +kernel
theorem in_X14 : ∀ w ∈ wsX140, w ∈ lw_all := lw_in wsX140 [973, 975, 977, 979] (by decide +kernel) (by decide +kernel)
def RX15 : String := "ScaleInspection$Visit"
def TX15 : u_T := fun k => match k with
  | 0 => ("ScaleInspection$Visit", "scale", "I", true)
  | 1 => ("ScaleInspection$Visit", "day", "I", true)
  | 2 => ("ScaleInspection$Visit", "tolerances", "I", true)
  | 3 => ("ScaleInspection$Visit", "masses", "[I", true)
  | 4 => ("ScaleInspection$Visit", "errors", "[I", true)
  | 5 => ("ScaleInspection$Visit", "tests", "I", false)
  | _ => ("ScaleInspection$Visit", "verdict", "I", false)
def tyX15 : Nat → FieldType := fun k => match k with
  | 0 => .int
  | 1 => .int
  | 2 => .int
  | 3 => .array .int
  | 4 => .array .int
  | 5 => .int
  | _ => .int
abbrev wsX150 : List Cond := u_ws RX15 TX15 7
theorem nmX15 : ∀ a, a < 7 → ∀ b, b < 7 → a ≠ b → (TX15 a).2.1 ≠ (TX15 b).2.1 := by decide +kernel
theorem tyX15_ok : ∀ k, k < 7 → parseFieldDescriptor (TX15 k).2.2.1 = some (tyX15 k) := by decide +kernel
theorem in_X15 : ∀ w ∈ wsX150, w ∈ lw_all := lw_in wsX150 [1116, 1118, 1120, 1122, 1124, 1126, 1128] (by decide +kernel) (by decide +kernel)
def RX16 : String := "ScaleInspection$Solver"
def TX16 : u_T := fun k => match k with
  | 0 => ("ScaleInspection$Solver", "count", "I", true)
  | 1 => ("ScaleInspection$Solver", "needed", "[I", true)
  | 2 => ("ScaleInspection$Solver", "left", "[I", true)
  | _ => ("ScaleInspection$Solver", "right", "[I", true)
def tyX16 : Nat → FieldType := fun k => match k with
  | 0 => .int
  | 1 => .array .int
  | 2 => .array .int
  | _ => .array .int
abbrev wsX160 : List Cond := u_ws RX16 TX16 4
theorem nmX16 : ∀ a, a < 4 → ∀ b, b < 4 → a ≠ b → (TX16 a).2.1 ≠ (TX16 b).2.1 := by decide +kernel
theorem tyX16_ok : ∀ k, k < 4 → parseFieldDescriptor (TX16 k).2.2.1 = some (tyX16 k) := by decide +kernel
theorem in_X16 : ∀ w ∈ wsX160, w ∈ lw_all := lw_in wsX160 [1395, 1397, 1399, 1401] (by decide +kernel) (by decide +kernel)
def RX17 : String := "ScaleInspection$BestWeighing"
def TX17 : u_T := fun k => match k with
  | 0 => ("ScaleInspection$BestWeighing", "h", "LScaleInspection$Hypotheses;", true)
  | 1 => ("ScaleInspection$BestWeighing", "count", "I", true)
  | 2 => ("ScaleInspection$BestWeighing", "both", "I", true)
  | 3 => ("ScaleInspection$BestWeighing", "heavy", "I", true)
  | 4 => ("ScaleInspection$BestWeighing", "light", "I", true)
  | 5 => ("ScaleInspection$BestWeighing", "known", "I", true)
  | 6 => ("ScaleInspection$BestWeighing", "needed", "I", true)
  | 7 => ("ScaleInspection$BestWeighing", "left", "I", false)
  | 8 => ("ScaleInspection$BestWeighing", "right", "I", false)
  | _ => ("ScaleInspection$BestWeighing", "this$0", "LScaleInspection;", true)
def tyX17 : Nat → FieldType := fun k => match k with
  | 0 => .object "ScaleInspection$Hypotheses"
  | 1 => .int
  | 2 => .int
  | 3 => .int
  | 4 => .int
  | 5 => .int
  | 6 => .int
  | 7 => .int
  | 8 => .int
  | _ => .object "ScaleInspection"
abbrev wsX170 : List Cond := u_ws RX17 TX17 10
theorem nmX17 : ∀ a, a < 10 → ∀ b, b < 10 → a ≠ b → (TX17 a).2.1 ≠ (TX17 b).2.1 := by decide +kernel
theorem tyX17_ok : ∀ k, k < 10 → parseFieldDescriptor (TX17 k).2.2.1 = some (tyX17 k) := by decide +kernel
theorem in_X17 : ∀ w ∈ wsX170, w ∈ lw_all := lw_in wsX170 [1478, 1480, 1482, 1484, 1486, 1488, 1490, 1492, 1494, 1496] (by decide +kernel) (by decide +kernel)
def RX18 : String := "ScaleInspection$AccuracyClass$1"
def RX19 : String := "ScaleInspection$AccuracyClass$2"
def RX20 : String := "ScaleInspection$AccuracyClass$3"
