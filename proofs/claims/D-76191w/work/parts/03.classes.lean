set_option maxRecDepth 100000
def RX0 : String := "CoarserOrders"
def TX0 : u_T := fun k => match k with
  | 0 => ("CoarserOrders", "refusal", "LCoarserOrders$Refusal;", true)
  | 1 => ("CoarserOrders", "fault", "LCoarserOrders$Fault;", true)
  | 2 => ("CoarserOrders", "arcsBy", "[[LCoarserOrders$Arc;", true)
  | 3 => ("CoarserOrders", "arcs", "[LCoarserOrders$Arc;", false)
  | 4 => ("CoarserOrders", "now", "LCoarserOrders$Order;", true)
  | 5 => ("CoarserOrders", "kept", "LCoarserOrders$Order;", true)
  | 6 => ("CoarserOrders", "makers", "[LCoarserOrders$Plain;", true)
  | 7 => ("CoarserOrders", "isKept", "Z", false)
  | 8 => ("CoarserOrders", "one", "[B", true)
  | 9 => ("CoarserOrders", "two", "[B", true)
  | 10 => ("CoarserOrders", "three", "[B", true)
  | 11 => ("CoarserOrders", "four", "[B", true)
  | 12 => ("CoarserOrders", "here", "[B", true)
  | 13 => ("CoarserOrders", "there", "[B", true)
  | 14 => ("CoarserOrders", "exact", "[[B", true)
  | 15 => ("CoarserOrders", "names", "[Ljava/lang/String;", true)
  | 16 => ("CoarserOrders", "tape", "[B", true)
  | 17 => ("CoarserOrders", "tapeMany", "I", false)
  | 18 => ("CoarserOrders", "at", "I", false)
  | 19 => ("CoarserOrders", "end", "I", false)
  | 20 => ("CoarserOrders", "facts", "[I", true)
  | 21 => ("CoarserOrders", "found", "[I", true)
  | 22 => ("CoarserOrders", "foundMany", "I", false)
  | 23 => ("CoarserOrders", "far", "[I", true)
  | 24 => ("CoarserOrders", "shortest", "[I", true)
  | 25 => ("CoarserOrders", "waiting", "[I", true)
  | 26 => ("CoarserOrders", "list", "[I", true)
  | 27 => ("CoarserOrders", "isListed", "[Z", true)
  | 28 => ("CoarserOrders", "listMany", "I", false)
  | 29 => ("CoarserOrders", "strangers", "[LCoarserOrders$Plain;", true)
  | 30 => ("CoarserOrders", "stepRows", "[I", true)
  | 31 => ("CoarserOrders", "stepArcs", "[I", true)
  | 32 => ("CoarserOrders", "stepMany", "I", false)
  | 33 => ("CoarserOrders", "shelves", "[LCoarserOrders$Shelf;", true)
  | 34 => ("CoarserOrders", "sheets", "[LCoarserOrders$Shelf;", true)
  | _ => ("CoarserOrders", "trace", "LCoarserOrders$Trace;", true)
def tyX0 : Nat → FieldType := fun k => match k with
  | 0 => .object "CoarserOrders$Refusal"
  | 1 => .object "CoarserOrders$Fault"
  | 2 => .array (.array (.object "CoarserOrders$Arc"))
  | 3 => .array (.object "CoarserOrders$Arc")
  | 4 => .object "CoarserOrders$Order"
  | 5 => .object "CoarserOrders$Order"
  | 6 => .array (.object "CoarserOrders$Plain")
  | 7 => .boolean
  | 8 => .array .byte
  | 9 => .array .byte
  | 10 => .array .byte
  | 11 => .array .byte
  | 12 => .array .byte
  | 13 => .array .byte
  | 14 => .array (.array .byte)
  | 15 => .array (.object "java/lang/String")
  | 16 => .array .byte
  | 17 => .int
  | 18 => .int
  | 19 => .int
  | 20 => .array .int
  | 21 => .array .int
  | 22 => .int
  | 23 => .array .int
  | 24 => .array .int
  | 25 => .array .int
  | 26 => .array .int
  | 27 => .array .boolean
  | 28 => .int
  | 29 => .array (.object "CoarserOrders$Plain")
  | 30 => .array .int
  | 31 => .array .int
  | 32 => .int
  | 33 => .array (.object "CoarserOrders$Shelf")
  | 34 => .array (.object "CoarserOrders$Shelf")
  | _ => .object "CoarserOrders$Trace"
abbrev wsX00 : List Cond := u_ws RX0 TX0 36
theorem nmX0 : ∀ a, a < 36 → ∀ b, b < 36 → a ≠ b → (TX0 a).2.1 ≠ (TX0 b).2.1 := by decide +kernel
theorem tyX0_ok : ∀ k, k < 36 → parseFieldDescriptor (TX0 k).2.2.1 = some (tyX0 k) := by decide +kernel
theorem in_X0 : ∀ w ∈ wsX00, w ∈ lw_all := lw_in wsX00 [508, 510, 512, 514, 516, 518, 520, 522, 524, 526, 528, 530, 532, 534, 536, 538, 540, 542, 544, 546, 548, 550, 552, 554, 556, 558, 560, 562, 564, 566, 568, 570, 572, 574, 576, 578] (by decide +kernel) (by decide +kernel)
def RX1 : String := "CoarserOrders$Refusal"
def TX1 : u_T := fun k => match k with
  | 0 => ("java/lang/Throwable", "cause", "Ljava/lang/Throwable;", false)
  | 1 => ("java/lang/Throwable", "stackTrace", "[Ljava/lang/StackTraceElement;", false)
  | 2 => ("java/lang/Throwable", "suppressedExceptions", "Ljava/util/List;", false)
  | 3 => ("java/lang/Throwable", "detailMessage", "Ljava/lang/String;", false)
  | 4 => ("java/lang/Throwable", "backtrace", "Ljava/lang/Object;", false)
  | 5 => ("java/lang/Throwable", "depth", "I", false)
  | _ => ("CoarserOrders$Refusal", "answer", "I", false)
def tyX1 : Nat → FieldType := fun k => match k with
  | 0 => .object "java/lang/Throwable"
  | 1 => .array (.object "java/lang/StackTraceElement")
  | 2 => .object "java/util/List"
  | 3 => .object "java/lang/String"
  | 4 => .object "java/lang/Object"
  | 5 => .int
  | _ => .int
abbrev wsX10 : List Cond := u_ws RX1 TX1 7
theorem nmX1 : ∀ a, a < 7 → ∀ b, b < 7 → a ≠ b → (TX1 a).2.1 ≠ (TX1 b).2.1 := by decide +kernel
theorem tyX1_ok : ∀ k, k < 7 → parseFieldDescriptor (TX1 k).2.2.1 = some (tyX1 k) := by decide +kernel
theorem in_X1 : ∀ w ∈ wsX10, w ∈ lw_all := lw_in wsX10 [214, 216, 218, 220, 222, 289, 283] (by decide +kernel) (by decide +kernel)
def RX2 : String := "CoarserOrders$Fault"
def TX2 : u_T := fun k => match k with
  | 0 => ("java/lang/Throwable", "cause", "Ljava/lang/Throwable;", false)
  | 1 => ("java/lang/Throwable", "stackTrace", "[Ljava/lang/StackTraceElement;", false)
  | 2 => ("java/lang/Throwable", "suppressedExceptions", "Ljava/util/List;", false)
  | 3 => ("java/lang/Throwable", "detailMessage", "Ljava/lang/String;", false)
  | 4 => ("java/lang/Throwable", "backtrace", "Ljava/lang/Object;", false)
  | 5 => ("java/lang/Throwable", "depth", "I", false)
  | _ => ("CoarserOrders$Refusal", "answer", "I", false)
def tyX2 : Nat → FieldType := fun k => match k with
  | 0 => .object "java/lang/Throwable"
  | 1 => .array (.object "java/lang/StackTraceElement")
  | 2 => .object "java/util/List"
  | 3 => .object "java/lang/String"
  | 4 => .object "java/lang/Object"
  | 5 => .int
  | _ => .int
abbrev wsX20 : List Cond := u_ws RX2 TX2 7
theorem nmX2 : ∀ a, a < 7 → ∀ b, b < 7 → a ≠ b → (TX2 a).2.1 ≠ (TX2 b).2.1 := by decide +kernel
theorem tyX2_ok : ∀ k, k < 7 → parseFieldDescriptor (TX2 k).2.2.1 = some (tyX2 k) := by decide +kernel
theorem in_X2 : ∀ w ∈ wsX20, w ∈ lw_all := lw_in wsX20 [298, 299, 300, 301, 302, 308, 307] (by decide +kernel) (by decide +kernel)
def RX3 : String := "CoarserOrders$Order"
def TX3 : u_T := fun k => match k with
  | 0 => ("CoarserOrders$Order", "n", "I", false)
  | 1 => ("CoarserOrders$Order", "makers", "I", false)
  | 2 => ("CoarserOrders$Order", "z", "I", false)
  | 3 => ("CoarserOrders$Order", "gone", "J", false)
  | 4 => ("CoarserOrders$Order", "kind", "[I", true)
  | _ => ("CoarserOrders$Order", "mark", "[I", true)
def tyX3 : Nat → FieldType := fun k => match k with
  | 0 => .int
  | 1 => .int
  | 2 => .int
  | 3 => .long
  | 4 => .array .int
  | _ => .array .int
abbrev wsX30 : List Cond := u_ws RX3 TX3 6
theorem nmX3 : ∀ a, a < 6 → ∀ b, b < 6 → a ≠ b → (TX3 a).2.1 ≠ (TX3 b).2.1 := by decide +kernel
theorem tyX3_ok : ∀ k, k < 6 → parseFieldDescriptor (TX3 k).2.2.1 = some (tyX3 k) := by decide +kernel
theorem in_X3 : ∀ w ∈ wsX30, w ∈ lw_all := lw_in wsX30 [332, 334, 336, 338, 340, 342] (by decide +kernel) (by decide +kernel)
def RX4 : String := "CoarserOrders$Trace"
def TX4 : u_T := fun k => match k with
  | 0 => ("CoarserOrders$Trace", "bodies", "[I", true)
  | _ => ("CoarserOrders$Trace", "many", "I", false)
def tyX4 : Nat → FieldType := fun k => match k with
  | 0 => .array .int
  | _ => .int
abbrev wsX40 : List Cond := u_ws RX4 TX4 2
theorem nmX4 : ∀ a, a < 2 → ∀ b, b < 2 → a ≠ b → (TX4 a).2.1 ≠ (TX4 b).2.1 := by decide +kernel
theorem tyX4_ok : ∀ k, k < 2 → parseFieldDescriptor (TX4 k).2.2.1 = some (tyX4 k) := by decide +kernel
theorem in_X4 : ∀ w ∈ wsX40, w ∈ lw_all := lw_in wsX40 [369, 371] (by decide +kernel) (by decide +kernel)
def RX5 : String := "CoarserOrders$Shelf"
def TX5 : u_T := fun k => match k with
  | _ => ("CoarserOrders$Shelf", "held", "Ljava/lang/Object;", false)
def tyX5 : Nat → FieldType := fun k => match k with
  | _ => .object "java/lang/Object"
abbrev wsX50 : List Cond := u_ws RX5 TX5 1
theorem nmX5 : ∀ a, a < 1 → ∀ b, b < 1 → a ≠ b → (TX5 a).2.1 ≠ (TX5 b).2.1 := by decide +kernel
theorem tyX5_ok : ∀ k, k < 1 → parseFieldDescriptor (TX5 k).2.2.1 = some (tyX5 k) := by decide +kernel
theorem in_X5 : ∀ w ∈ wsX50, w ∈ lw_all := lw_in wsX50 [382] (by decide +kernel) (by decide +kernel)
def RX6 : String := "CoarserOrders$Arc"
def TX6 : u_T := fun k => match k with
  | 0 => ("CoarserOrders$Arc", "number", "I", true)
  | 1 => ("CoarserOrders$Arc", "low", "I", true)
  | 2 => ("CoarserOrders$Arc", "high", "I", true)
  | 3 => ("CoarserOrders$Arc", "left", "I", true)
  | 4 => ("CoarserOrders$Arc", "lowerFree", "LCoarserOrders$Arc;", false)
  | 5 => ("CoarserOrders$Arc", "lowerLeft", "LCoarserOrders$Arc;", false)
  | 6 => ("CoarserOrders$Arc", "higherFree", "LCoarserOrders$Arc;", false)
  | 7 => ("CoarserOrders$Arc", "higherLeft", "LCoarserOrders$Arc;", false)
  | 8 => ("CoarserOrders$Arc", "without", "LCoarserOrders$Arc;", false)
  | 9 => ("CoarserOrders$Arc", "within", "LCoarserOrders$Arc;", false)
  | 10 => ("CoarserOrders$Arc", "forced", "J", false)
  | _ => ("CoarserOrders$Arc", "forcing", "J", false)
def tyX6 : Nat → FieldType := fun k => match k with
  | 0 => .int
  | 1 => .int
  | 2 => .int
  | 3 => .int
  | 4 => .object "CoarserOrders$Arc"
  | 5 => .object "CoarserOrders$Arc"
  | 6 => .object "CoarserOrders$Arc"
  | 7 => .object "CoarserOrders$Arc"
  | 8 => .object "CoarserOrders$Arc"
  | 9 => .object "CoarserOrders$Arc"
  | 10 => .long
  | _ => .long
abbrev wsX60 : List Cond := u_ws RX6 TX6 12
theorem nmX6 : ∀ a, a < 12 → ∀ b, b < 12 → a ≠ b → (TX6 a).2.1 ≠ (TX6 b).2.1 := by decide +kernel
theorem tyX6_ok : ∀ k, k < 12 → parseFieldDescriptor (TX6 k).2.2.1 = some (tyX6 k) := by decide +kernel
theorem in_X6 : ∀ w ∈ wsX60, w ∈ lw_all := lw_in wsX60 [427, 429, 431, 433, 435, 437, 439, 441, 443, 445, 447, 449] (by decide +kernel) (by decide +kernel)
def RX7 : String := "CoarserOrdersModel"
def TX7 : u_T := fun k => match k with
  | 0 => ("CoarserOrdersModel", "n", "I", false)
  | 1 => ("CoarserOrdersModel", "z", "I", false)
  | 2 => ("CoarserOrdersModel", "makers", "I", false)
  | 3 => ("CoarserOrdersModel", "gone", "J", false)
  | 4 => ("CoarserOrdersModel", "kinds", "[I", true)
  | 5 => ("CoarserOrdersModel", "ms", "[I", true)
  | 6 => ("CoarserOrdersModel", "keptN", "I", false)
  | 7 => ("CoarserOrdersModel", "keptZ", "I", false)
  | 8 => ("CoarserOrdersModel", "keptMakers", "I", false)
  | 9 => ("CoarserOrdersModel", "keptGone", "J", false)
  | 10 => ("CoarserOrdersModel", "keptKinds", "[I", true)
  | 11 => ("CoarserOrdersModel", "keptMs", "[I", true)
  | 12 => ("CoarserOrdersModel", "isKept", "Z", false)
  | 13 => ("CoarserOrdersModel", "low", "[I", true)
  | 14 => ("CoarserOrdersModel", "high", "[I", true)
  | 15 => ("CoarserOrdersModel", "lefts", "[I", true)
  | 16 => ("CoarserOrdersModel", "forces", "[J", true)
  | 17 => ("CoarserOrdersModel", "arcs", "I", false)
  | 18 => ("CoarserOrdersModel", "power", "[I", true)
  | 19 => ("CoarserOrdersModel", "ways", "[I", true)
  | 20 => ("CoarserOrdersModel", "tape", "[I", true)
  | 21 => ("CoarserOrdersModel", "code", "[I", true)
  | 22 => ("CoarserOrdersModel", "stack", "[I", true)
  | 23 => ("CoarserOrdersModel", "taped", "I", false)
  | 24 => ("CoarserOrdersModel", "from", "I", false)
  | 25 => ("CoarserOrdersModel", "to", "I", false)
  | 26 => ("CoarserOrdersModel", "codes", "I", false)
  | 27 => ("CoarserOrdersModel", "open", "I", false)
  | 28 => ("CoarserOrdersModel", "isWrong", "Z", false)
  | 29 => ("CoarserOrdersModel", "line", "[I", true)
  | 30 => ("CoarserOrdersModel", "far", "[I", true)
  | 31 => ("CoarserOrdersModel", "fewest", "[I", true)
  | 32 => ("CoarserOrdersModel", "queue", "[I", true)
  | 33 => ("CoarserOrdersModel", "list", "[I", true)
  | 34 => ("CoarserOrdersModel", "isListed", "[Z", true)
  | 35 => ("CoarserOrdersModel", "steps", "[I", true)
  | 36 => ("CoarserOrdersModel", "stepped", "I", false)
  | 37 => ("CoarserOrdersModel", "sorts", "[I", true)
  | 38 => ("CoarserOrdersModel", "sizes", "[I", true)
  | 39 => ("CoarserOrdersModel", "cells", "[J", true)
  | 40 => ("CoarserOrdersModel", "aside", "[J", true)
  | 41 => ("CoarserOrdersModel", "held", "[I", true)
  | 42 => ("CoarserOrdersModel", "thing", "[I", true)
  | 43 => ("CoarserOrdersModel", "length", "[I", true)
  | 44 => ("CoarserOrdersModel", "trace", "[I", true)
  | 45 => ("CoarserOrdersModel", "traced", "I", false)
  | 46 => ("CoarserOrdersModel", "kind", "I", false)
  | 47 => ("CoarserOrdersModel", "number", "I", false)
  | 48 => ("CoarserOrdersModel", "m", "I", false)
  | _ => ("CoarserOrdersModel", "isParted", "Z", false)
def tyX7 : Nat → FieldType := fun k => match k with
  | 0 => .int
  | 1 => .int
  | 2 => .int
  | 3 => .long
  | 4 => .array .int
  | 5 => .array .int
  | 6 => .int
  | 7 => .int
  | 8 => .int
  | 9 => .long
  | 10 => .array .int
  | 11 => .array .int
  | 12 => .boolean
  | 13 => .array .int
  | 14 => .array .int
  | 15 => .array .int
  | 16 => .array .long
  | 17 => .int
  | 18 => .array .int
  | 19 => .array .int
  | 20 => .array .int
  | 21 => .array .int
  | 22 => .array .int
  | 23 => .int
  | 24 => .int
  | 25 => .int
  | 26 => .int
  | 27 => .int
  | 28 => .boolean
  | 29 => .array .int
  | 30 => .array .int
  | 31 => .array .int
  | 32 => .array .int
  | 33 => .array .int
  | 34 => .array .boolean
  | 35 => .array .int
  | 36 => .int
  | 37 => .array .int
  | 38 => .array .int
  | 39 => .array .long
  | 40 => .array .long
  | 41 => .array .int
  | 42 => .array .int
  | 43 => .array .int
  | 44 => .array .int
  | 45 => .int
  | 46 => .int
  | 47 => .int
  | 48 => .int
  | _ => .boolean
abbrev wsX70 : List Cond := u_ws RX7 TX7 50
theorem nmX7 : ∀ a, a < 50 → ∀ b, b < 50 → a ≠ b → (TX7 a).2.1 ≠ (TX7 b).2.1 := by decide +kernel
theorem tyX7_ok : ∀ k, k < 50 → parseFieldDescriptor (TX7 k).2.2.1 = some (tyX7 k) := by decide +kernel
theorem in_X7 : ∀ w ∈ wsX70, w ∈ lw_all := lw_in wsX70 [1979, 1981, 1983, 1985, 1987, 1989, 1991, 1993, 1995, 1997, 1999, 2001, 2003, 2005, 2007, 2009, 2011, 2013, 2015, 2017, 2019, 2021, 2023, 2025, 2027, 2029, 2031, 2033, 2035, 2037, 2039, 2041, 2043, 2045, 2047, 2049, 2051, 2053, 2055, 2057, 2059, 2061, 2063, 2065, 2067, 2069, 2071, 2073, 2075, 2077] (by decide +kernel) (by decide +kernel)
def RX8 : String := "CoarserOrders$Plain"
def TX8 : u_T := fun k => match k with
  | 0 => ("CoarserOrders$Plain", "number", "I", true)
  | _ => ("CoarserOrders$Plain", "mark", "I", true)
def tyX8 : Nat → FieldType := fun k => match k with
  | 0 => .int
  | _ => .int
abbrev wsX80 : List Cond := u_ws RX8 TX8 2
theorem nmX8 : ∀ a, a < 2 → ∀ b, b < 2 → a ≠ b → (TX8 a).2.1 ≠ (TX8 b).2.1 := by decide +kernel
theorem tyX8_ok : ∀ k, k < 2 → parseFieldDescriptor (TX8 k).2.2.1 = some (tyX8 k) := by decide +kernel
theorem in_X8 : ∀ w ∈ wsX80, w ∈ lw_all := lw_in wsX80 [894, 895] (by decide +kernel) (by decide +kernel)
def RX9 : String := "CoarserOrders$Lefty"
def TX9 : u_T := fun k => match k with
  | 0 => ("CoarserOrders$Plain", "number", "I", true)
  | _ => ("CoarserOrders$Plain", "mark", "I", true)
def tyX9 : Nat → FieldType := fun k => match k with
  | 0 => .int
  | _ => .int
abbrev wsX90 : List Cond := u_ws RX9 TX9 2
theorem nmX9 : ∀ a, a < 2 → ∀ b, b < 2 → a ≠ b → (TX9 a).2.1 ≠ (TX9 b).2.1 := by decide +kernel
theorem tyX9_ok : ∀ k, k < 2 → parseFieldDescriptor (TX9 k).2.2.1 = some (tyX9 k) := by decide +kernel
theorem in_X9 : ∀ w ∈ wsX90, w ∈ lw_all := lw_in wsX90 [851, 853] (by decide +kernel) (by decide +kernel)
def RX10 : String := "CoarserOrders$Longer"
def TX10 : u_T := fun k => match k with
  | 0 => ("CoarserOrders$Plain", "number", "I", true)
  | _ => ("CoarserOrders$Plain", "mark", "I", true)
def tyX10 : Nat → FieldType := fun k => match k with
  | 0 => .int
  | _ => .int
abbrev wsX100 : List Cond := u_ws RX10 TX10 2
theorem nmX10 : ∀ a, a < 2 → ∀ b, b < 2 → a ≠ b → (TX10 a).2.1 ≠ (TX10 b).2.1 := by decide +kernel
theorem tyX10_ok : ∀ k, k < 2 → parseFieldDescriptor (TX10 k).2.2.1 = some (tyX10 k) := by decide +kernel
theorem in_X10 : ∀ w ∈ wsX100, w ∈ lw_all := lw_in wsX100 [862, 863] (by decide +kernel) (by decide +kernel)
def RX11 : String := "CoarserOrders$Twosided"
def TX11 : u_T := fun k => match k with
  | 0 => ("CoarserOrders$Plain", "number", "I", true)
  | _ => ("CoarserOrders$Plain", "mark", "I", true)
def tyX11 : Nat → FieldType := fun k => match k with
  | 0 => .int
  | _ => .int
abbrev wsX110 : List Cond := u_ws RX11 TX11 2
theorem nmX11 : ∀ a, a < 2 → ∀ b, b < 2 → a ≠ b → (TX11 a).2.1 ≠ (TX11 b).2.1 := by decide +kernel
theorem tyX11_ok : ∀ k, k < 2 → parseFieldDescriptor (TX11 k).2.2.1 = some (tyX11 k) := by decide +kernel
theorem in_X11 : ∀ w ∈ wsX110, w ∈ lw_all := lw_in wsX110 [871, 872] (by decide +kernel) (by decide +kernel)
def RX12 : String := "CoarserOrders$Signed"
def TX12 : u_T := fun k => match k with
  | 0 => ("CoarserOrders$Plain", "number", "I", true)
  | _ => ("CoarserOrders$Plain", "mark", "I", true)
def tyX12 : Nat → FieldType := fun k => match k with
  | 0 => .int
  | _ => .int
abbrev wsX120 : List Cond := u_ws RX12 TX12 2
theorem nmX12 : ∀ a, a < 2 → ∀ b, b < 2 → a ≠ b → (TX12 a).2.1 ≠ (TX12 b).2.1 := by decide +kernel
theorem tyX12_ok : ∀ k, k < 2 → parseFieldDescriptor (TX12 k).2.2.1 = some (tyX12 k) := by decide +kernel
theorem in_X12 : ∀ w ∈ wsX120, w ∈ lw_all := lw_in wsX120 [880, 881] (by decide +kernel) (by decide +kernel)
def RX13 : String := "CoarserOrders$Mixed"
def TX13 : u_T := fun k => match k with
  | 0 => ("CoarserOrders$Plain", "number", "I", true)
  | _ => ("CoarserOrders$Plain", "mark", "I", true)
def tyX13 : Nat → FieldType := fun k => match k with
  | 0 => .int
  | _ => .int
abbrev wsX130 : List Cond := u_ws RX13 TX13 2
theorem nmX13 : ∀ a, a < 2 → ∀ b, b < 2 → a ≠ b → (TX13 a).2.1 ≠ (TX13 b).2.1 := by decide +kernel
theorem tyX13_ok : ∀ k, k < 2 → parseFieldDescriptor (TX13 k).2.2.1 = some (tyX13 k) := by decide +kernel
theorem in_X13 : ∀ w ∈ wsX130, w ∈ lw_all := lw_in wsX130 [889, 890] (by decide +kernel) (by decide +kernel)
def RX14 : String := "CoarserOrders$Cond"
def RX15 : String := "CoarserOrders$Not"
def TX15 : u_T := fun k => match k with
  | _ => ("CoarserOrders$Not", "of", "LCoarserOrders$Cond;", true)
def tyX15 : Nat → FieldType := fun k => match k with
  | _ => .object "CoarserOrders$Cond"
abbrev wsX150 : List Cond := u_ws RX15 TX15 1
theorem nmX15 : ∀ a, a < 1 → ∀ b, b < 1 → a ≠ b → (TX15 a).2.1 ≠ (TX15 b).2.1 := by decide +kernel
theorem tyX15_ok : ∀ k, k < 1 → parseFieldDescriptor (TX15 k).2.2.1 = some (tyX15 k) := by decide +kernel
theorem in_X15 : ∀ w ∈ wsX150, w ∈ lw_all := lw_in wsX150 [1107] (by decide +kernel) (by decide +kernel)
def RX16 : String := "CoarserOrders$Value"
def TX16 : u_T := fun k => match k with
  | 0 => ("CoarserOrders$Value", "fact", "I", true)
  | _ => ("CoarserOrders$Value", "n", "I", true)
def tyX16 : Nat → FieldType := fun k => match k with
  | 0 => .int
  | _ => .int
abbrev wsX160 : List Cond := u_ws RX16 TX16 2
theorem nmX16 : ∀ a, a < 2 → ∀ b, b < 2 → a ≠ b → (TX16 a).2.1 ≠ (TX16 b).2.1 := by decide +kernel
theorem tyX16_ok : ∀ k, k < 2 → parseFieldDescriptor (TX16 k).2.2.1 = some (tyX16 k) := by decide +kernel
theorem in_X16 : ∀ w ∈ wsX160, w ∈ lw_all := lw_in wsX160 [1142, 1144] (by decide +kernel) (by decide +kernel)
def RX17 : String := "CoarserOrders$Asks"
def TX17 : u_T := fun k => match k with
  | 0 => ("CoarserOrders$Asks", "first", "LCoarserOrders$Value;", true)
  | 1 => ("CoarserOrders$Asks", "second", "LCoarserOrders$Value;", true)
  | _ => ("CoarserOrders$Asks", "sign", "I", true)
def tyX17 : Nat → FieldType := fun k => match k with
  | 0 => .object "CoarserOrders$Value"
  | 1 => .object "CoarserOrders$Value"
  | _ => .int
abbrev wsX170 : List Cond := u_ws RX17 TX17 3
theorem nmX17 : ∀ a, a < 3 → ∀ b, b < 3 → a ≠ b → (TX17 a).2.1 ≠ (TX17 b).2.1 := by decide +kernel
theorem tyX17_ok : ∀ k, k < 3 → parseFieldDescriptor (TX17 k).2.2.1 = some (tyX17 k) := by decide +kernel
theorem in_X17 : ∀ w ∈ wsX170, w ∈ lw_all := lw_in wsX170 [1160, 1162, 1164] (by decide +kernel) (by decide +kernel)
def RX18 : String := "CoarserOrders$All"
def TX18 : u_T := fun k => match k with
  | 0 => ("CoarserOrders$All", "first", "LCoarserOrders$Cond;", true)
  | _ => ("CoarserOrders$All", "second", "LCoarserOrders$Cond;", true)
def tyX18 : Nat → FieldType := fun k => match k with
  | 0 => .object "CoarserOrders$Cond"
  | _ => .object "CoarserOrders$Cond"
abbrev wsX180 : List Cond := u_ws RX18 TX18 2
theorem nmX18 : ∀ a, a < 2 → ∀ b, b < 2 → a ≠ b → (TX18 a).2.1 ≠ (TX18 b).2.1 := by decide +kernel
theorem tyX18_ok : ∀ k, k < 2 → parseFieldDescriptor (TX18 k).2.2.1 = some (tyX18 k) := by decide +kernel
theorem in_X18 : ∀ w ∈ wsX180, w ∈ lw_all := lw_in wsX180 [1180, 1182] (by decide +kernel) (by decide +kernel)
def RX19 : String := "CoarserOrders$Some"
def TX19 : u_T := fun k => match k with
  | 0 => ("CoarserOrders$All", "first", "LCoarserOrders$Cond;", true)
  | _ => ("CoarserOrders$All", "second", "LCoarserOrders$Cond;", true)
def tyX19 : Nat → FieldType := fun k => match k with
  | 0 => .object "CoarserOrders$Cond"
  | _ => .object "CoarserOrders$Cond"
abbrev wsX190 : List Cond := u_ws RX19 TX19 2
theorem nmX19 : ∀ a, a < 2 → ∀ b, b < 2 → a ≠ b → (TX19 a).2.1 ≠ (TX19 b).2.1 := by decide +kernel
theorem tyX19_ok : ∀ k, k < 2 → parseFieldDescriptor (TX19 k).2.2.1 = some (tyX19 k) := by decide +kernel
theorem in_X19 : ∀ w ∈ wsX190, w ∈ lw_all := lw_in wsX190 [1192, 1193] (by decide +kernel) (by decide +kernel)
def RX20 : String := "CoarserOrders$Tally"
def RX21 : String := "CoarserOrders$1Between"
def TX21 : u_T := fun k => match k with
  | 0 => ("CoarserOrders$Tally", "this$0", "LCoarserOrders;", true)
  | 1 => ("CoarserOrders$1Between", "val$least", "J", true)
  | 2 => ("CoarserOrders$1Between", "val$greatest", "J", true)
  | _ => ("CoarserOrders$1Between", "this$0", "LCoarserOrders;", true)
def tyX21 : Nat → FieldType := fun k => match k with
  | 0 => .object "CoarserOrders"
  | 1 => .long
  | 2 => .long
  | _ => .object "CoarserOrders"
abbrev wsX210 : List Cond := u_ws RX21 TX21 4
theorem tyX21_ok : ∀ k, k < 4 → parseFieldDescriptor (TX21 k).2.2.1 = some (tyX21 k) := by decide +kernel
theorem in_X21 : ∀ w ∈ wsX210, w ∈ lw_all := lw_in wsX210 [1258, 1252, 1254, 1256] (by decide +kernel) (by decide +kernel)
def RX22 : String := "CoarserOrders$Rows"
def TX22 : u_T := fun k => match k with
  | 0 => ("CoarserOrders$Rows", "row", "[B", true)
  | 1 => ("CoarserOrders$Rows", "left", "I", false)
  | 2 => ("CoarserOrders$Rows", "isBegun", "Z", false)
  | _ => ("CoarserOrders$Rows", "this$0", "LCoarserOrders;", true)
def tyX22 : Nat → FieldType := fun k => match k with
  | 0 => .array .byte
  | 1 => .int
  | 2 => .boolean
  | _ => .object "CoarserOrders"
abbrev wsX220 : List Cond := u_ws RX22 TX22 4
theorem nmX22 : ∀ a, a < 4 → ∀ b, b < 4 → a ≠ b → (TX22 a).2.1 ≠ (TX22 b).2.1 := by decide +kernel
theorem tyX22_ok : ∀ k, k < 4 → parseFieldDescriptor (TX22 k).2.2.1 = some (tyX22 k) := by decide +kernel
theorem in_X22 : ∀ w ∈ wsX220, w ∈ lw_all := lw_in wsX220 [1278, 1280, 1282, 1284] (by decide +kernel) (by decide +kernel)
def RX23 : String := "CoarserOrders$Lister"
def TX23 : u_T := fun k => match k with
  | 0 => ("CoarserOrders$Lister", "row", "[B", true)
  | 1 => ("CoarserOrders$Lister", "ahead", "[B", true)
  | _ => ("CoarserOrders$Lister", "this$0", "LCoarserOrders;", true)
def tyX23 : Nat → FieldType := fun k => match k with
  | 0 => .array .byte
  | 1 => .array .byte
  | _ => .object "CoarserOrders"
abbrev wsX230 : List Cond := u_ws RX23 TX23 3
theorem nmX23 : ∀ a, a < 3 → ∀ b, b < 3 → a ≠ b → (TX23 a).2.1 ≠ (TX23 b).2.1 := by decide +kernel
theorem tyX23_ok : ∀ k, k < 3 → parseFieldDescriptor (TX23 k).2.2.1 = some (tyX23 k) := by decide +kernel
theorem in_X23 : ∀ w ∈ wsX230, w ∈ lw_all := lw_in wsX230 [1421, 1423, 1425] (by decide +kernel) (by decide +kernel)
def RX24 : String := "CoarserOrders$Ticket"
def TX24 : u_T := fun k => match k with
  | _ => ("CoarserOrders$Ticket", "number", "I", true)
def tyX24 : Nat → FieldType := fun k => match k with
  | _ => .int
abbrev wsX240 : List Cond := u_ws RX24 TX24 1
theorem nmX24 : ∀ a, a < 1 → ∀ b, b < 1 → a ≠ b → (TX24 a).2.1 ≠ (TX24 b).2.1 := by decide +kernel
theorem tyX24_ok : ∀ k, k < 1 → parseFieldDescriptor (TX24 k).2.2.1 = some (tyX24 k) := by decide +kernel
theorem in_X24 : ∀ w ∈ wsX240, w ∈ lw_all := lw_in wsX240 [1636] (by decide +kernel) (by decide +kernel)
def RX25 : String := "CoarserOrders$1"
def TX25 : u_T := fun k => match k with
  | 0 => ("CoarserOrders$Tally", "this$0", "LCoarserOrders;", true)
  | _ => ("CoarserOrders$1", "this$0", "LCoarserOrders;", true)
def tyX25 : Nat → FieldType := fun k => match k with
  | 0 => .object "CoarserOrders"
  | _ => .object "CoarserOrders"
abbrev wsX250 : List Cond := u_ws RX25 TX25 2
theorem tyX25_ok : ∀ k, k < 2 → parseFieldDescriptor (TX25 k).2.2.1 = some (tyX25 k) := by decide +kernel
theorem in_X25 : ∀ w ∈ wsX250, w ∈ lw_all := lw_in wsX250 [1870, 1868] (by decide +kernel) (by decide +kernel)
def RX26 : String := "CoarserOrders$2"
def TX26 : u_T := fun k => match k with
  | 0 => ("CoarserOrders$Tally", "this$0", "LCoarserOrders;", true)
  | _ => ("CoarserOrders$2", "this$0", "LCoarserOrders;", true)
def tyX26 : Nat → FieldType := fun k => match k with
  | 0 => .object "CoarserOrders"
  | _ => .object "CoarserOrders"
abbrev wsX260 : List Cond := u_ws RX26 TX26 2
theorem tyX26_ok : ∀ k, k < 2 → parseFieldDescriptor (TX26 k).2.2.1 = some (tyX26 k) := by decide +kernel
theorem in_X26 : ∀ w ∈ wsX260, w ∈ lw_all := lw_in wsX260 [1888, 1886] (by decide +kernel) (by decide +kernel)
def RX27 : String := "CoarserOrders$Turns"
def RX28 : String := "CoarserOrders$Bends"
def RX29 : String := "CoarserOrders$Parts"
def RX30 : String := "CoarserOrders$Joins"
abbrev xcl : List vw_C := [(RX0, TX0, 36), (RX1, TX1, 7), (RX2, TX2, 7), (RX3, TX3, 6), (RX4, TX4, 2), (RX5, TX5, 1), (RX6, TX6, 12), (RX7, TX7, 50), (RX8, TX8, 2), (RX9, TX9, 2), (RX10, TX10, 2), (RX11, TX11, 2), (RX12, TX12, 2), (RX13, TX13, 2), (RX5, TX5, 1), (RX15, TX15, 1), (RX16, TX16, 2), (RX17, TX17, 3), (RX18, TX18, 2), (RX19, TX19, 2), (RX5, TX5, 1), (RX21, TX21, 4), (RX22, TX22, 4), (RX23, TX23, 3), (RX24, TX24, 1), (RX25, TX25, 2), (RX26, TX26, 2)]
abbrev xtys : List FieldType := [.int, .byte, .boolean, .short, .long, .object "CoarserOrders$Arc", .array (.object "CoarserOrders$Arc"), .object "CoarserOrders$Plain", .object "CoarserOrders$Shelf", .object "java/lang/String", .array .byte]
def xslen : List Nat := [3, 4, 4, 5, 4, 3, 1, 1, 3, 2, 1, 1, 1]
def xsbyt : List (List Int32) := [[108, 111, 119], [104, 105, 103, 104], [108, 101, 102, 116], [114, 105, 103, 104, 116], [108, 97, 115, 116], [110, 111, 116], [40], [41], [97, 110, 100], [111, 114], [60], [61], [62]]
def xstrs : List (String × Nat × String × Nat) := [("CoarserOrders", 163, "low", 0), ("CoarserOrders", 164, "high", 1), ("CoarserOrders", 165, "left", 2), ("CoarserOrders", 166, "right", 3), ("CoarserOrders", 168, "last", 4), ("CoarserOrders", 474, "not", 5), ("CoarserOrders", 485, "(", 6), ("CoarserOrders", 490, ")", 7), ("CoarserOrders", 505, "and", 8), ("CoarserOrders", 515, "or", 9),
  ("CoarserOrdersModel", 302, "not", 5), ("CoarserOrdersModel", 304, "(", 6), ("CoarserOrdersModel", 312, ")", 7), ("CoarserOrdersModel", 270, "low", 0), ("CoarserOrdersModel", 275, "high", 1), ("CoarserOrdersModel", 276, "left", 2), ("CoarserOrdersModel", 278, "right", 3), ("CoarserOrdersModel", 280, "last", 4), ("CoarserOrdersModel", 296, "<", 10), ("CoarserOrdersModel", 298, "=", 11), ("CoarserOrdersModel", 300, ">", 12), ("CoarserOrdersModel", 320, "and", 8), ("CoarserOrdersModel", 325, "or", 9)]
def xStr (s : State) (x : Nat → Nat) : Prop := vk_S 13 xslen xsbyt x (fun i => x (100 + i)) (fun q => s.heap.size ≤ q) s s.heap ∧ (∀ q ∈ xstrs, vk_R q.1 q.2.1 q.2.2.1 (x q.2.2.2) s) ∧ va_Z "java/lang/String" "COMPACT_STRINGS" "Z" (.int 1) (fun q => s.heap.size ≤ q) s s.heap ∧ (va_Z "jdk/internal/util/Preconditions" "SIOOBE_FORMATTER" "Ljava/util/function/BiFunction;" .null (fun q => s.heap.size ≤ q) s s.heap ∨ va_Z "jdk/internal/util/Preconditions" "SIOOBE_FORMATTER" "Ljava/util/function/BiFunction;" (.ref (x 50)) (fun q => s.heap.size ≤ q) s s.heap)
