/-! the classes of objects: names, fields, the words of their fields (from the names that the kit printed for this claim) -/
def RX0 : String := "PascalHouse"
def TX0 : u_T := fun k => match k with
  | 0 => ("PascalHouse", "reserved", "[Ljava/lang/String;", true)
  | 1 => ("PascalHouse", "tape", "[B", true)
  | 2 => ("PascalHouse", "input", "[B", true)
  | 3 => ("PascalHouse", "taped", "I", false)
  | 4 => ("PascalHouse", "size", "I", false)
  | 5 => ("PascalHouse", "slots", "[B", true)
  | 6 => ("PascalHouse", "slotSize", "[I", true)
  | 7 => ("PascalHouse", "faults", "LPascalHouse$Faults;", true)
  | 8 => ("PascalHouse", "code", "LPascalHouse$Code;", true)
  | 9 => ("PascalHouse", "parser", "LPascalHouse$Parser;", true)
  | 10 => ("PascalHouse", "compiler", "LPascalHouse$Compiler;", true)
  | 11 => ("PascalHouse", "machine", "LPascalHouse$Machine;", true)
  | 12 => ("PascalHouse", "main", "LPascalHouse$Routine;", false)
  | 13 => ("PascalHouse", "fileAt", "[I", true)
  | 14 => ("PascalHouse", "files", "I", false)
  | 15 => ("PascalHouse", "symbols", "I", false)
  | 16 => ("PascalHouse", "readAt", "I", false)
  | 17 => ("PascalHouse", "writtenAt", "I", false)
  | 18 => ("PascalHouse", "ran", "Z", false)
  | 19 => ("PascalHouse", "left", "[B", true)
  | _ => ("PascalHouse", "leftSize", "[I", true)
def tyX0 : Nat → FieldType := fun k => match k with
  | 0 => .array (.object "java/lang/String")
  | 1 => .array .byte
  | 2 => .array .byte
  | 3 => .int
  | 4 => .int
  | 5 => .array .byte
  | 6 => .array .int
  | 7 => .object "PascalHouse$Faults"
  | 8 => .object "PascalHouse$Code"
  | 9 => .object "PascalHouse$Parser"
  | 10 => .object "PascalHouse$Compiler"
  | 11 => .object "PascalHouse$Machine"
  | 12 => .object "PascalHouse$Routine"
  | 13 => .array .int
  | 14 => .int
  | 15 => .int
  | 16 => .int
  | 17 => .int
  | 18 => .boolean
  | 19 => .array .byte
  | _ => .array .int
abbrev wsX00 : List Cond := u_ws RX0 TX0 21
set_option maxRecDepth 100000 in
theorem nmX0 : ∀ a, a < 21 → ∀ b, b < 21 → a ≠ b → (TX0 a).2.1 ≠ (TX0 b).2.1 := by decide +kernel
set_option maxRecDepth 100000 in
theorem tyX0_ok : ∀ k, k < 21 → parseFieldDescriptor (TX0 k).2.2.1 = some (tyX0 k) := by decide +kernel
set_option maxRecDepth 100000 in
theorem in_X0 : ∀ w ∈ wsX00, w ∈ lw_all := lw_in wsX00 [1423, 1425, 1427, 1429, 1431, 1433, 1435, 1437, 1439, 1441, 1443, 1445, 1447, 1449, 1451, 1453, 1455, 1457, 1459, 1461, 1463] (by decide +kernel) (by decide +kernel)
def RX1 : String := "PascalHouse$Faults"
def TX1 : u_T := fun k => match k with
  | 0 => ("PascalHouse$Faults", "number", "I", false)
  | _ => ("PascalHouse$Faults", "place", "I", false)
def tyX1 : Nat → FieldType := fun k => match k with
  | 0 => .int
  | _ => .int
abbrev wsX10 : List Cond := u_ws RX1 TX1 2
set_option maxRecDepth 100000 in
theorem nmX1 : ∀ a, a < 2 → ∀ b, b < 2 → a ≠ b → (TX1 a).2.1 ≠ (TX1 b).2.1 := by decide +kernel
set_option maxRecDepth 100000 in
theorem tyX1_ok : ∀ k, k < 2 → parseFieldDescriptor (TX1 k).2.2.1 = some (tyX1 k) := by decide +kernel
set_option maxRecDepth 100000 in
theorem in_X1 : ∀ w ∈ wsX10, w ∈ lw_all := lw_in wsX10 [487, 489] (by decide +kernel) (by decide +kernel)
def RX2 : String := "PascalHouse$Code"
def TX2 : u_T := fun k => match k with
  | 0 => ("PascalHouse$Code", "op", "[I", false)
  | 1 => ("PascalHouse$Code", "x", "[I", false)
  | 2 => ("PascalHouse$Code", "y", "[I", false)
  | 3 => ("PascalHouse$Code", "z", "[I", false)
  | 4 => ("PascalHouse$Code", "place", "[I", false)
  | 5 => ("PascalHouse$Code", "size", "I", false)
  | 6 => ("PascalHouse$Code", "reals", "[D", false)
  | 7 => ("PascalHouse$Code", "realCount", "I", false)
  | 8 => ("PascalHouse$Code", "literals", "[B", true)
  | 9 => ("PascalHouse$Code", "literalSize", "I", false)
  | 10 => ("PascalHouse$Code", "routines", "Ljava/util/ArrayList;", true)
  | 11 => ("PascalHouse$Code", "parts", "Ljava/util/ArrayList;", true)
  | 12 => ("PascalHouse$Code", "values", "[I", false)
  | 13 => ("PascalHouse$Code", "targets", "[I", false)
  | 14 => ("PascalHouse$Code", "cases", "I", false)
  | 15 => ("PascalHouse$Code", "marks", "[I", false)
  | _ => ("PascalHouse$Code", "labels", "I", false)
def tyX2 : Nat → FieldType := fun k => match k with
  | 0 => .array .int
  | 1 => .array .int
  | 2 => .array .int
  | 3 => .array .int
  | 4 => .array .int
  | 5 => .int
  | 6 => .array .double
  | 7 => .int
  | 8 => .array .byte
  | 9 => .int
  | 10 => .object "java/util/ArrayList"
  | 11 => .object "java/util/ArrayList"
  | 12 => .array .int
  | 13 => .array .int
  | 14 => .int
  | 15 => .array .int
  | _ => .int
abbrev wsX20 : List Cond := u_ws RX2 TX2 17
set_option maxRecDepth 100000 in
theorem nmX2 : ∀ a, a < 17 → ∀ b, b < 17 → a ≠ b → (TX2 a).2.1 ≠ (TX2 b).2.1 := by decide +kernel
set_option maxRecDepth 100000 in
theorem tyX2_ok : ∀ k, k < 17 → parseFieldDescriptor (TX2 k).2.2.1 = some (tyX2 k) := by decide +kernel
set_option maxRecDepth 100000 in
theorem in_X2 : ∀ w ∈ wsX20, w ∈ lw_all := lw_in wsX20 [566, 568, 570, 572, 574, 576, 578, 580, 582, 584, 586, 588, 590, 592, 594, 596, 598] (by decide +kernel) (by decide +kernel)
def RX3 : String := "PascalHouse$Parser"
def TX3 : u_T := fun k => match k with
  | 0 => ("PascalHouse$Parser", "scanner", "LPascalHouse$Scanner;", true)
  | 1 => ("PascalHouse$Parser", "faults", "LPascalHouse$Faults;", true)
  | 2 => ("PascalHouse$Parser", "now", "LPascalHouse$Symbol;", false)
  | 3 => ("PascalHouse$Parser", "symbols", "I", false)
  | _ => ("PascalHouse$Parser", "depth", "I", false)
def tyX3 : Nat → FieldType := fun k => match k with
  | 0 => .object "PascalHouse$Scanner"
  | 1 => .object "PascalHouse$Faults"
  | 2 => .object "PascalHouse$Symbol"
  | 3 => .int
  | _ => .int
abbrev wsX30 : List Cond := u_ws RX3 TX3 5
set_option maxRecDepth 100000 in
theorem nmX3 : ∀ a, a < 5 → ∀ b, b < 5 → a ≠ b → (TX3 a).2.1 ≠ (TX3 b).2.1 := by decide +kernel
set_option maxRecDepth 100000 in
theorem tyX3_ok : ∀ k, k < 5 → parseFieldDescriptor (TX3 k).2.2.1 = some (tyX3 k) := by decide +kernel
set_option maxRecDepth 100000 in
theorem in_X3 : ∀ w ∈ wsX30, w ∈ lw_all := lw_in wsX30 [670, 672, 674, 676, 678] (by decide +kernel) (by decide +kernel)
def RX4 : String := "PascalHouse$Scanner"
def TX4 : u_T := fun k => match k with
  | 0 => ("PascalHouse$Scanner", "text", "[B", true)
  | 1 => ("PascalHouse$Scanner", "reserved", "[Ljava/lang/String;", true)
  | 2 => ("PascalHouse$Scanner", "faults", "LPascalHouse$Faults;", true)
  | 3 => ("PascalHouse$Scanner", "spelt", "Ljava/lang/StringBuilder;", true)
  | 4 => ("PascalHouse$Scanner", "size", "I", false)
  | _ => ("PascalHouse$Scanner", "at", "I", false)
def tyX4 : Nat → FieldType := fun k => match k with
  | 0 => .array .byte
  | 1 => .array (.object "java/lang/String")
  | 2 => .object "PascalHouse$Faults"
  | 3 => .object "java/lang/StringBuilder"
  | 4 => .int
  | _ => .int
abbrev wsX40 : List Cond := u_ws RX4 TX4 6
set_option maxRecDepth 100000 in
theorem nmX4 : ∀ a, a < 6 → ∀ b, b < 6 → a ≠ b → (TX4 a).2.1 ≠ (TX4 b).2.1 := by decide +kernel
set_option maxRecDepth 100000 in
theorem tyX4_ok : ∀ k, k < 6 → parseFieldDescriptor (TX4 k).2.2.1 = some (tyX4 k) := by decide +kernel
set_option maxRecDepth 100000 in
theorem in_X4 : ∀ w ∈ wsX40, w ∈ lw_all := lw_in wsX40 [647, 649, 651, 653, 655, 657] (by decide +kernel) (by decide +kernel)
def RX5 : String := "PascalHouse$Compiler"
def TX5 : u_T := fun k => match k with
  | 0 => ("PascalHouse$Compiler", "faults", "LPascalHouse$Faults;", true)
  | 1 => ("PascalHouse$Compiler", "code", "LPascalHouse$Code;", true)
  | 2 => ("PascalHouse$Compiler", "integer", "LPascalHouse$Type;", true)
  | 3 => ("PascalHouse$Compiler", "real", "LPascalHouse$Type;", true)
  | 4 => ("PascalHouse$Compiler", "bool", "LPascalHouse$Type;", true)
  | 5 => ("PascalHouse$Compiler", "chars", "LPascalHouse$Type;", true)
  | 6 => ("PascalHouse$Compiler", "text", "LPascalHouse$Type;", true)
  | 7 => ("PascalHouse$Compiler", "nil", "LPascalHouse$Type;", true)
  | 8 => ("PascalHouse$Compiler", "empty", "LPascalHouse$Type;", true)
  | 9 => ("PascalHouse$Compiler", "waiting", "Ljava/util/ArrayList;", true)
  | 10 => ("PascalHouse$Compiler", "waitingFor", "Ljava/util/ArrayList;", true)
  | 11 => ("PascalHouse$Compiler", "waits", "Z", false)
  | 12 => ("PascalHouse$Compiler", "outermost", "LPascalHouse$Scope;", true)
  | 13 => ("PascalHouse$Compiler", "scope", "LPascalHouse$Scope;", false)
  | 14 => ("PascalHouse$Compiler", "block", "LPascalHouse$Block;", false)
  | 15 => ("PascalHouse$Compiler", "routine", "LPascalHouse$Routine;", false)
  | 16 => ("PascalHouse$Compiler", "cType", "LPascalHouse$Type;", false)
  | 17 => ("PascalHouse$Compiler", "cInt", "I", false)
  | 18 => ("PascalHouse$Compiler", "cReal", "D", false)
  | 19 => ("PascalHouse$Compiler", "laid", "LPascalHouse$Field;", false)
  | 20 => ("PascalHouse$Compiler", "laidBy", "LPascalHouse$Scope;", false)
  | 21 => ("PascalHouse$Compiler", "alone", "LPascalHouse$Item;", false)
  | 22 => ("PascalHouse$Compiler", "tag", "LPascalHouse$Part;", false)
  | 23 => ("PascalHouse$Compiler", "tagOffset", "I", false)
  | 24 => ("PascalHouse$Compiler", "main", "LPascalHouse$Routine;", false)
  | 25 => ("PascalHouse$Compiler", "input", "LPascalHouse$Item;", false)
  | 26 => ("PascalHouse$Compiler", "output", "LPascalHouse$Item;", false)
  | 27 => ("PascalHouse$Compiler", "rows", "I", false)
  | _ => ("PascalHouse$Compiler", "marked", "I", false)
def tyX5 : Nat → FieldType := fun k => match k with
  | 0 => .object "PascalHouse$Faults"
  | 1 => .object "PascalHouse$Code"
  | 2 => .object "PascalHouse$Type"
  | 3 => .object "PascalHouse$Type"
  | 4 => .object "PascalHouse$Type"
  | 5 => .object "PascalHouse$Type"
  | 6 => .object "PascalHouse$Type"
  | 7 => .object "PascalHouse$Type"
  | 8 => .object "PascalHouse$Type"
  | 9 => .object "java/util/ArrayList"
  | 10 => .object "java/util/ArrayList"
  | 11 => .boolean
  | 12 => .object "PascalHouse$Scope"
  | 13 => .object "PascalHouse$Scope"
  | 14 => .object "PascalHouse$Block"
  | 15 => .object "PascalHouse$Routine"
  | 16 => .object "PascalHouse$Type"
  | 17 => .int
  | 18 => .double
  | 19 => .object "PascalHouse$Field"
  | 20 => .object "PascalHouse$Scope"
  | 21 => .object "PascalHouse$Item"
  | 22 => .object "PascalHouse$Part"
  | 23 => .int
  | 24 => .object "PascalHouse$Routine"
  | 25 => .object "PascalHouse$Item"
  | 26 => .object "PascalHouse$Item"
  | 27 => .int
  | _ => .int
abbrev wsX50 : List Cond := u_ws RX5 TX5 29
set_option maxRecDepth 100000 in
theorem nmX5 : ∀ a, a < 29 → ∀ b, b < 29 → a ≠ b → (TX5 a).2.1 ≠ (TX5 b).2.1 := by decide +kernel
set_option maxRecDepth 100000 in
theorem tyX5_ok : ∀ k, k < 29 → parseFieldDescriptor (TX5 k).2.2.1 = some (tyX5 k) := by decide +kernel
set_option maxRecDepth 100000 in
theorem in_X5 : ∀ w ∈ wsX50, w ∈ lw_all := lw_in wsX50 [1137, 1139, 1141, 1143, 1145, 1147, 1149, 1151, 1153, 1155, 1157, 1159, 1161, 1163, 1165, 1167, 1169, 1171, 1173, 1175, 1177, 1179, 1181, 1183, 1185, 1187, 1189, 1191, 1193] (by decide +kernel) (by decide +kernel)
def RX6 : String := "PascalHouse$Type"
def TX6 : u_T := fun k => match k with
  | 0 => ("PascalHouse$Type", "kind", "I", true)
  | 1 => ("PascalHouse$Type", "host", "LPascalHouse$Type;", false)
  | 2 => ("PascalHouse$Type", "base", "LPascalHouse$Type;", false)
  | 3 => ("PascalHouse$Type", "index", "LPascalHouse$Type;", false)
  | 4 => ("PascalHouse$Type", "sets", "LPascalHouse$Type;", false)
  | 5 => ("PascalHouse$Type", "low", "I", false)
  | 6 => ("PascalHouse$Type", "high", "I", false)
  | 7 => ("PascalHouse$Type", "cells", "I", false)
  | _ => ("PascalHouse$Type", "fields", "Ljava/util/ArrayList;", true)
def tyX6 : Nat → FieldType := fun k => match k with
  | 0 => .int
  | 1 => .object "PascalHouse$Type"
  | 2 => .object "PascalHouse$Type"
  | 3 => .object "PascalHouse$Type"
  | 4 => .object "PascalHouse$Type"
  | 5 => .int
  | 6 => .int
  | 7 => .int
  | _ => .object "java/util/ArrayList"
abbrev wsX60 : List Cond := u_ws RX6 TX6 9
set_option maxRecDepth 100000 in
theorem nmX6 : ∀ a, a < 9 → ∀ b, b < 9 → a ≠ b → (TX6 a).2.1 ≠ (TX6 b).2.1 := by decide +kernel
set_option maxRecDepth 100000 in
theorem tyX6_ok : ∀ k, k < 9 → parseFieldDescriptor (TX6 k).2.2.1 = some (tyX6 k) := by decide +kernel
set_option maxRecDepth 100000 in
theorem in_X6 : ∀ w ∈ wsX60, w ∈ lw_all := lw_in wsX60 [715, 717, 719, 721, 723, 725, 727, 729, 731] (by decide +kernel) (by decide +kernel)
def RX7 : String := "PascalHouse$Scope"
def TX7 : u_T := fun k => match k with
  | 0 => ("PascalHouse$Scope", "items", "Ljava/util/ArrayList;", true)
  | 1 => ("PascalHouse$Scope", "outer", "LPascalHouse$Scope;", true)
  | 2 => ("PascalHouse$Scope", "record", "LPascalHouse$Type;", false)
  | _ => ("PascalHouse$Scope", "temporary", "I", false)
def tyX7 : Nat → FieldType := fun k => match k with
  | 0 => .object "java/util/ArrayList"
  | 1 => .object "PascalHouse$Scope"
  | 2 => .object "PascalHouse$Type"
  | _ => .int
abbrev wsX70 : List Cond := u_ws RX7 TX7 4
set_option maxRecDepth 100000 in
theorem nmX7 : ∀ a, a < 4 → ∀ b, b < 4 → a ≠ b → (TX7 a).2.1 ≠ (TX7 b).2.1 := by decide +kernel
set_option maxRecDepth 100000 in
theorem tyX7_ok : ∀ k, k < 4 → parseFieldDescriptor (TX7 k).2.2.1 = some (tyX7 k) := by decide +kernel
set_option maxRecDepth 100000 in
theorem in_X7 : ∀ w ∈ wsX70, w ∈ lw_all := lw_in wsX70 [764, 766, 768, 770] (by decide +kernel) (by decide +kernel)
def RX8 : String := "PascalHouse$Item"
def TX8 : u_T := fun k => match k with
  | 0 => ("PascalHouse$Item", "kind", "I", true)
  | 1 => ("PascalHouse$Item", "name", "Ljava/lang/String;", true)
  | 2 => ("PascalHouse$Item", "type", "LPascalHouse$Type;", false)
  | 3 => ("PascalHouse$Item", "value", "I", false)
  | 4 => ("PascalHouse$Item", "level", "I", false)
  | 5 => ("PascalHouse$Item", "offset", "I", false)
  | 6 => ("PascalHouse$Item", "controls", "I", false)
  | 7 => ("PascalHouse$Item", "real", "D", false)
  | 8 => ("PascalHouse$Item", "byReference", "Z", false)
  | 9 => ("PascalHouse$Item", "own", "Z", false)
  | 10 => ("PascalHouse$Item", "threatened", "Z", false)
  | _ => ("PascalHouse$Item", "routine", "LPascalHouse$Routine;", false)
def tyX8 : Nat → FieldType := fun k => match k with
  | 0 => .int
  | 1 => .object "java/lang/String"
  | 2 => .object "PascalHouse$Type"
  | 3 => .int
  | 4 => .int
  | 5 => .int
  | 6 => .int
  | 7 => .double
  | 8 => .boolean
  | 9 => .boolean
  | 10 => .boolean
  | _ => .object "PascalHouse$Routine"
abbrev wsX80 : List Cond := u_ws RX8 TX8 12
set_option maxRecDepth 100000 in
theorem nmX8 : ∀ a, a < 12 → ∀ b, b < 12 → a ≠ b → (TX8 a).2.1 ≠ (TX8 b).2.1 := by decide +kernel
set_option maxRecDepth 100000 in
theorem tyX8_ok : ∀ k, k < 12 → parseFieldDescriptor (TX8 k).2.2.1 = some (tyX8 k) := by decide +kernel
set_option maxRecDepth 100000 in
theorem in_X8 : ∀ w ∈ wsX80, w ∈ lw_all := lw_in wsX80 [984, 986, 988, 990, 992, 994, 996, 998, 1000, 1002, 1004, 1006] (by decide +kernel) (by decide +kernel)
def RX9 : String := "PascalHouse$Machine"
def TX9 : u_T := fun k => match k with
  | 0 => ("PascalHouse$Machine", "code", "LPascalHouse$Code;", true)
  | 1 => ("PascalHouse$Machine", "memory", "LPascalHouse$Memory;", true)
  | 2 => ("PascalHouse$Machine", "files", "LPascalHouse$FileRows;", true)
  | 3 => ("PascalHouse$Machine", "low", "[J", true)
  | 4 => ("PascalHouse$Machine", "high", "[J", true)
  | 5 => ("PascalHouse$Machine", "real", "[D", true)
  | 6 => ("PascalHouse$Machine", "top", "I", false)
  | 7 => ("PascalHouse$Machine", "at", "I", false)
  | 8 => ("PascalHouse$Machine", "base", "[I", true)
  | 9 => ("PascalHouse$Machine", "link", "[I", true)
  | 10 => ("PascalHouse$Machine", "back", "[I", true)
  | 11 => ("PascalHouse$Machine", "pile", "[I", true)
  | 12 => ("PascalHouse$Machine", "called", "[I", true)
  | 13 => ("PascalHouse$Machine", "routine", "[LPascalHouse$Routine;", true)
  | 14 => ("PascalHouse$Machine", "temporary", "[J", true)
  | 15 => ("PascalHouse$Machine", "frame", "I", false)
  | 16 => ("PascalHouse$Machine", "cells", "I", false)
  | 17 => ("PascalHouse$Machine", "start", "[I", true)
  | 18 => ("PascalHouse$Machine", "gone", "[Z", true)
  | 19 => ("PascalHouse$Machine", "heap", "I", false)
  | 20 => ("PascalHouse$Machine", "made", "I", false)
  | 21 => ("PascalHouse$Machine", "alive", "I", false)
  | 22 => ("PascalHouse$Machine", "error", "I", false)
  | 23 => ("PascalHouse$Machine", "where", "I", false)
  | 24 => ("PascalHouse$Machine", "steps", "I", false)
  | 25 => ("PascalHouse$Machine", "most", "I", false)
  | 26 => ("PascalHouse$Machine", "deepest", "I", false)
  | 27 => ("PascalHouse$Machine", "greatest", "I", false)
  | 28 => ("PascalHouse$Machine", "over", "Z", false)
  | 29 => ("PascalHouse$Machine", "line", "[B", true)
  | _ => ("PascalHouse$Machine", "lineSize", "I", false)
def tyX9 : Nat → FieldType := fun k => match k with
  | 0 => .object "PascalHouse$Code"
  | 1 => .object "PascalHouse$Memory"
  | 2 => .object "PascalHouse$FileRows"
  | 3 => .array .long
  | 4 => .array .long
  | 5 => .array .double
  | 6 => .int
  | 7 => .int
  | 8 => .array .int
  | 9 => .array .int
  | 10 => .array .int
  | 11 => .array .int
  | 12 => .array .int
  | 13 => .array (.object "PascalHouse$Routine")
  | 14 => .array .long
  | 15 => .int
  | 16 => .int
  | 17 => .array .int
  | 18 => .array .boolean
  | 19 => .int
  | 20 => .int
  | 21 => .int
  | 22 => .int
  | 23 => .int
  | 24 => .int
  | 25 => .int
  | 26 => .int
  | 27 => .int
  | 28 => .boolean
  | 29 => .array .byte
  | _ => .int
abbrev wsX90 : List Cond := u_ws RX9 TX9 31
set_option maxRecDepth 100000 in
theorem nmX9 : ∀ a, a < 31 → ∀ b, b < 31 → a ≠ b → (TX9 a).2.1 ≠ (TX9 b).2.1 := by decide +kernel
set_option maxRecDepth 100000 in
theorem tyX9_ok : ∀ k, k < 31 → parseFieldDescriptor (TX9 k).2.2.1 = some (tyX9 k) := by decide +kernel
set_option maxRecDepth 100000 in
theorem in_X9 : ∀ w ∈ wsX90, w ∈ lw_all := lw_in wsX90 [1339, 1341, 1343, 1345, 1347, 1349, 1351, 1353, 1355, 1357, 1359, 1361, 1363, 1365, 1367, 1369, 1371, 1373, 1375, 1377, 1379, 1381, 1383, 1385, 1387, 1389, 1391, 1393, 1395, 1397, 1399] (by decide +kernel) (by decide +kernel)
def RX10 : String := "PascalHouse$Memory"
def TX10 : u_T := fun k => match k with
  | 0 => ("PascalHouse$Memory", "low", "[J", true)
  | 1 => ("PascalHouse$Memory", "high", "[J", true)
  | 2 => ("PascalHouse$Memory", "real", "[D", true)
  | _ => ("PascalHouse$Memory", "has", "[Z", true)
def tyX10 : Nat → FieldType := fun k => match k with
  | 0 => .array .long
  | 1 => .array .long
  | 2 => .array .double
  | _ => .array .boolean
abbrev wsX100 : List Cond := u_ws RX10 TX10 4
set_option maxRecDepth 100000 in
theorem nmX10 : ∀ a, a < 4 → ∀ b, b < 4 → a ≠ b → (TX10 a).2.1 ≠ (TX10 b).2.1 := by decide +kernel
set_option maxRecDepth 100000 in
theorem tyX10_ok : ∀ k, k < 4 → parseFieldDescriptor (TX10 k).2.2.1 = some (tyX10 k) := by decide +kernel
set_option maxRecDepth 100000 in
theorem in_X10 : ∀ w ∈ wsX100, w ∈ lw_all := lw_in wsX100 [1221, 1223, 1225, 1227] (by decide +kernel) (by decide +kernel)
def RX11 : String := "PascalHouse$FileRows"
def TX11 : u_T := fun k => match k with
  | 0 => ("PascalHouse$FileRows", "memory", "LPascalHouse$Memory;", true)
  | 1 => ("PascalHouse$FileRows", "mode", "[I", true)
  | 2 => ("PascalHouse$FileRows", "first", "[I", true)
  | 3 => ("PascalHouse$FileRows", "last", "[I", true)
  | 4 => ("PascalHouse$FileRows", "point", "[I", true)
  | 5 => ("PascalHouse$FileRows", "count", "[I", true)
  | 6 => ("PascalHouse$FileRows", "step", "[I", true)
  | 7 => ("PascalHouse$FileRows", "isText", "[Z", true)
  | 8 => ("PascalHouse$FileRows", "outside", "[Z", true)
  | 9 => ("PascalHouse$FileRows", "next", "[I", true)
  | 10 => ("PascalHouse$FileRows", "low", "[J", true)
  | 11 => ("PascalHouse$FileRows", "high", "[J", true)
  | 12 => ("PascalHouse$FileRows", "real", "[D", true)
  | 13 => ("PascalHouse$FileRows", "has", "[Z", true)
  | 14 => ("PascalHouse$FileRows", "free", "I", false)
  | _ => ("PascalHouse$FileRows", "all", "I", false)
def tyX11 : Nat → FieldType := fun k => match k with
  | 0 => .object "PascalHouse$Memory"
  | 1 => .array .int
  | 2 => .array .int
  | 3 => .array .int
  | 4 => .array .int
  | 5 => .array .int
  | 6 => .array .int
  | 7 => .array .boolean
  | 8 => .array .boolean
  | 9 => .array .int
  | 10 => .array .long
  | 11 => .array .long
  | 12 => .array .double
  | 13 => .array .boolean
  | 14 => .int
  | _ => .int
abbrev wsX110 : List Cond := u_ws RX11 TX11 16
set_option maxRecDepth 100000 in
theorem nmX11 : ∀ a, a < 16 → ∀ b, b < 16 → a ≠ b → (TX11 a).2.1 ≠ (TX11 b).2.1 := by decide +kernel
set_option maxRecDepth 100000 in
theorem tyX11_ok : ∀ k, k < 16 → parseFieldDescriptor (TX11 k).2.2.1 = some (tyX11 k) := by decide +kernel
set_option maxRecDepth 100000 in
theorem in_X11 : ∀ w ∈ wsX110, w ∈ lw_all := lw_in wsX110 [1264, 1266, 1268, 1270, 1272, 1274, 1276, 1278, 1280, 1282, 1284, 1286, 1288, 1290, 1292, 1294] (by decide +kernel) (by decide +kernel)
def RX12 : String := "PascalHouseModel"
def TX12 : u_T := fun k => match k with
  | 0 => ("PascalHouseModel", "thrown", "I", false)
  | 1 => ("PascalHouseModel", "tape", "[B", true)
  | 2 => ("PascalHouseModel", "taped", "I", false)
  | 3 => ("PascalHouseModel", "input", "[B", true)
  | 4 => ("PascalHouseModel", "given", "I", false)
  | 5 => ("PascalHouseModel", "slots", "[B", true)
  | 6 => ("PascalHouseModel", "slotSize", "[I", true)
  | 7 => ("PascalHouseModel", "text", "[B", true)
  | 8 => ("PascalHouseModel", "size", "I", false)
  | 9 => ("PascalHouseModel", "at", "I", false)
  | 10 => ("PascalHouseModel", "sort", "[I", true)
  | 11 => ("PascalHouseModel", "place", "[I", true)
  | 12 => ("PascalHouseModel", "word", "[I", true)
  | 13 => ("PascalHouseModel", "length", "[I", true)
  | 14 => ("PascalHouseModel", "reals", "[D", true)
  | 15 => ("PascalHouseModel", "symbols", "I", false)
  | 16 => ("PascalHouseModel", "signs", "[B", true)
  | 17 => ("PascalHouseModel", "signMany", "I", false)
  | 18 => ("PascalHouseModel", "letters", "[B", true)
  | 19 => ("PascalHouseModel", "letterMany", "I", false)
  | 20 => ("PascalHouseModel", "nameAt", "[I", true)
  | 21 => ("PascalHouseModel", "nameSize", "[I", true)
  | 22 => ("PascalHouseModel", "nameNext", "[I", true)
  | 23 => ("PascalHouseModel", "heads", "[I", true)
  | 24 => ("PascalHouseModel", "nameMany", "I", false)
  | 25 => ("PascalHouseModel", "spelt", "[B", true)
  | 26 => ("PascalHouseModel", "speltMany", "I", false)
  | 27 => ("PascalHouseModel", "fault", "I", false)
  | 28 => ("PascalHouseModel", "faultAt", "I", false)
  | 29 => ("PascalHouseModel", "kind", "[I", true)
  | 30 => ("PascalHouseModel", "token", "[I", true)
  | 31 => ("PascalHouseModel", "first", "[I", true)
  | 32 => ("PascalHouseModel", "last", "[I", true)
  | 33 => ("PascalHouseModel", "next", "[I", true)
  | 34 => ("PascalHouseModel", "one", "[I", true)
  | 35 => ("PascalHouseModel", "two", "[I", true)
  | 36 => ("PascalHouseModel", "three", "[I", true)
  | 37 => ("PascalHouseModel", "up", "[I", true)
  | 38 => ("PascalHouseModel", "nodes", "I", false)
  | 39 => ("PascalHouseModel", "deep", "I", false)
  | 40 => ("PascalHouseModel", "forward", "I", false)
  | 41 => ("PascalHouseModel", "types", "[LPascalHouseModel$Type;", true)
  | 42 => ("PascalHouseModel", "means", "[LPascalHouseModel$Symbol;", true)
  | 43 => ("PascalHouseModel", "integer", "LPascalHouseModel$Type;", true)
  | 44 => ("PascalHouseModel", "realType", "LPascalHouseModel$Type;", true)
  | 45 => ("PascalHouseModel", "truth", "LPascalHouseModel$Type;", true)
  | 46 => ("PascalHouseModel", "character", "LPascalHouseModel$Type;", true)
  | 47 => ("PascalHouseModel", "textType", "LPascalHouseModel$Type;", true)
  | 48 => ("PascalHouseModel", "nil", "LPascalHouseModel$Type;", true)
  | 49 => ("PascalHouseModel", "noMembers", "LPascalHouseModel$Type;", true)
  | 50 => ("PascalHouseModel", "regions", "Ljava/util/ArrayList;", true)
  | 51 => ("PascalHouseModel", "opens", "[I", true)
  | 52 => ("PascalHouseModel", "withs", "I", false)
  | 53 => ("PascalHouseModel", "opened", "I", false)
  | 54 => ("PascalHouseModel", "scopes", "Ljava/util/ArrayList;", true)
  | 55 => ("PascalHouseModel", "controlled", "Ljava/util/ArrayList;", true)
  | 56 => ("PascalHouseModel", "heading", "Ljava/util/ArrayList;", true)
  | 57 => ("PascalHouseModel", "inputFile", "LPascalHouseModel$Symbol;", false)
  | 58 => ("PascalHouseModel", "outputFile", "LPascalHouseModel$Symbol;", false)
  | 59 => ("PascalHouseModel", "inTypePart", "Z", false)
  | 60 => ("PascalHouseModel", "waiting", "Ljava/util/ArrayList;", true)
  | 61 => ("PascalHouseModel", "waitingNames", "[I", true)
  | 62 => ("PascalHouseModel", "routineMany", "I", false)
  | 63 => ("PascalHouseModel", "programBlock", "I", false)
  | 64 => ("PascalHouseModel", "programCells", "I", false)
  | 65 => ("PascalHouseModel", "programRegion", "Ljava/util/ArrayList;", false)
  | 66 => ("PascalHouseModel", "cType", "LPascalHouseModel$Type;", false)
  | 67 => ("PascalHouseModel", "cValue", "J", false)
  | 68 => ("PascalHouseModel", "cReal", "D", false)
  | 69 => ("PascalHouseModel", "cString", "I", false)
  | 70 => ("PascalHouseModel", "hasProgram", "Z", false)
  | 71 => ("PascalHouseModel", "hasRun", "Z", false)
  | 72 => ("PascalHouseModel", "programName", "I", false)
  | 73 => ("PascalHouseModel", "head", "I", false)
  | 74 => ("PascalHouseModel", "routineList", "Ljava/util/ArrayList;", true)
  | 75 => ("PascalHouseModel", "cell", "[J", true)
  | 76 => ("PascalHouseModel", "upper", "[J", true)
  | 77 => ("PascalHouseModel", "real", "[D", true)
  | 78 => ("PascalHouseModel", "has", "[Z", true)
  | 79 => ("PascalHouseModel", "cellTop", "I", false)
  | 80 => ("PascalHouseModel", "cellMost", "I", false)
  | 81 => ("PascalHouseModel", "heapTop", "I", false)
  | 82 => ("PascalHouseModel", "blockAt", "[I", true)
  | 83 => ("PascalHouseModel", "isGone", "[Z", true)
  | 84 => ("PascalHouseModel", "blockMany", "I", false)
  | 85 => ("PascalHouseModel", "blockAlive", "I", false)
  | 86 => ("PascalHouseModel", "frameBase", "[I", true)
  | 87 => ("PascalHouseModel", "frameOuter", "[I", true)
  | 88 => ("PascalHouseModel", "frameLevel", "[I", true)
  | 89 => ("PascalHouseModel", "frameFiles", "[I", true)
  | 90 => ("PascalHouseModel", "frameWith", "[I", true)
  | 91 => ("PascalHouseModel", "frame", "I", false)
  | 92 => ("PascalHouseModel", "frameTop", "I", false)
  | 93 => ("PascalHouseModel", "frameMost", "I", false)
  | 94 => ("PascalHouseModel", "argument", "[J", true)
  | 95 => ("PascalHouseModel", "argumentUpper", "[J", true)
  | 96 => ("PascalHouseModel", "argumentReal", "[D", true)
  | 97 => ("PascalHouseModel", "argumentTop", "I", false)
  | 98 => ("PascalHouseModel", "gone", "Z", false)
  | 99 => ("PascalHouseModel", "runError", "I", false)
  | 100 => ("PascalHouseModel", "runAt", "I", false)
  | 101 => ("PascalHouseModel", "jumpTo", "I", false)
  | 102 => ("PascalHouseModel", "jumpFrame", "I", false)
  | 103 => ("PascalHouseModel", "limit", "I", false)
  | 104 => ("PascalHouseModel", "made", "I", false)
  | 105 => ("PascalHouseModel", "vL", "J", false)
  | 106 => ("PascalHouseModel", "vU", "J", false)
  | 107 => ("PascalHouseModel", "vR", "D", false)
  | 108 => ("PascalHouseModel", "vA", "I", false)
  | 109 => ("PascalHouseModel", "fA", "I", false)
  | 110 => ("PascalHouseModel", "fileState", "[I", true)
  | 111 => ("PascalHouseModel", "fileFirst", "[I", true)
  | 112 => ("PascalHouseModel", "fileLast", "[I", true)
  | 113 => ("PascalHouseModel", "filePoint", "[I", true)
  | 114 => ("PascalHouseModel", "fileMany", "[I", true)
  | 115 => ("PascalHouseModel", "fileAt", "[I", true)
  | 116 => ("PascalHouseModel", "fileHead", "[Z", true)
  | 117 => ("PascalHouseModel", "fileType", "[LPascalHouseModel$Type;", true)
  | 118 => ("PascalHouseModel", "files", "I", false)
  | 119 => ("PascalHouseModel", "parts", "I", false)
  | 120 => ("PascalHouseModel", "partCell", "[J", true)
  | 121 => ("PascalHouseModel", "partUpper", "[J", true)
  | 122 => ("PascalHouseModel", "partReal", "[D", true)
  | 123 => ("PascalHouseModel", "partHas", "[Z", true)
  | 124 => ("PascalHouseModel", "partNext", "[I", true)
  | 125 => ("PascalHouseModel", "partFree", "I", false)
  | 126 => ("PascalHouseModel", "vType", "LPascalHouseModel$Type;", false)
  | 127 => ("PascalHouseModel", "line", "[I", true)
  | 128 => ("PascalHouseModel", "lineSize", "I", false)
  | 129 => ("PascalHouseModel", "began", "Z", false)
  | _ => ("PascalHouseModel", "headFiles", "[I", true)
def tyX12 : Nat → FieldType := fun k => match k with
  | 0 => .int
  | 1 => .array .byte
  | 2 => .int
  | 3 => .array .byte
  | 4 => .int
  | 5 => .array .byte
  | 6 => .array .int
  | 7 => .array .byte
  | 8 => .int
  | 9 => .int
  | 10 => .array .int
  | 11 => .array .int
  | 12 => .array .int
  | 13 => .array .int
  | 14 => .array .double
  | 15 => .int
  | 16 => .array .byte
  | 17 => .int
  | 18 => .array .byte
  | 19 => .int
  | 20 => .array .int
  | 21 => .array .int
  | 22 => .array .int
  | 23 => .array .int
  | 24 => .int
  | 25 => .array .byte
  | 26 => .int
  | 27 => .int
  | 28 => .int
  | 29 => .array .int
  | 30 => .array .int
  | 31 => .array .int
  | 32 => .array .int
  | 33 => .array .int
  | 34 => .array .int
  | 35 => .array .int
  | 36 => .array .int
  | 37 => .array .int
  | 38 => .int
  | 39 => .int
  | 40 => .int
  | 41 => .array (.object "PascalHouseModel$Type")
  | 42 => .array (.object "PascalHouseModel$Symbol")
  | 43 => .object "PascalHouseModel$Type"
  | 44 => .object "PascalHouseModel$Type"
  | 45 => .object "PascalHouseModel$Type"
  | 46 => .object "PascalHouseModel$Type"
  | 47 => .object "PascalHouseModel$Type"
  | 48 => .object "PascalHouseModel$Type"
  | 49 => .object "PascalHouseModel$Type"
  | 50 => .object "java/util/ArrayList"
  | 51 => .array .int
  | 52 => .int
  | 53 => .int
  | 54 => .object "java/util/ArrayList"
  | 55 => .object "java/util/ArrayList"
  | 56 => .object "java/util/ArrayList"
  | 57 => .object "PascalHouseModel$Symbol"
  | 58 => .object "PascalHouseModel$Symbol"
  | 59 => .boolean
  | 60 => .object "java/util/ArrayList"
  | 61 => .array .int
  | 62 => .int
  | 63 => .int
  | 64 => .int
  | 65 => .object "java/util/ArrayList"
  | 66 => .object "PascalHouseModel$Type"
  | 67 => .long
  | 68 => .double
  | 69 => .int
  | 70 => .boolean
  | 71 => .boolean
  | 72 => .int
  | 73 => .int
  | 74 => .object "java/util/ArrayList"
  | 75 => .array .long
  | 76 => .array .long
  | 77 => .array .double
  | 78 => .array .boolean
  | 79 => .int
  | 80 => .int
  | 81 => .int
  | 82 => .array .int
  | 83 => .array .boolean
  | 84 => .int
  | 85 => .int
  | 86 => .array .int
  | 87 => .array .int
  | 88 => .array .int
  | 89 => .array .int
  | 90 => .array .int
  | 91 => .int
  | 92 => .int
  | 93 => .int
  | 94 => .array .long
  | 95 => .array .long
  | 96 => .array .double
  | 97 => .int
  | 98 => .boolean
  | 99 => .int
  | 100 => .int
  | 101 => .int
  | 102 => .int
  | 103 => .int
  | 104 => .int
  | 105 => .long
  | 106 => .long
  | 107 => .double
  | 108 => .int
  | 109 => .int
  | 110 => .array .int
  | 111 => .array .int
  | 112 => .array .int
  | 113 => .array .int
  | 114 => .array .int
  | 115 => .array .int
  | 116 => .array .boolean
  | 117 => .array (.object "PascalHouseModel$Type")
  | 118 => .int
  | 119 => .int
  | 120 => .array .long
  | 121 => .array .long
  | 122 => .array .double
  | 123 => .array .boolean
  | 124 => .array .int
  | 125 => .int
  | 126 => .object "PascalHouseModel$Type"
  | 127 => .array .int
  | 128 => .int
  | 129 => .boolean
  | _ => .array .int
abbrev wsX120 : List Cond := u_ws RX12 TX12 131
set_option maxRecDepth 100000 in
theorem nmX12 : ∀ a, a < 131 → ∀ b, b < 131 → a ≠ b → (TX12 a).2.1 ≠ (TX12 b).2.1 := by decide +kernel
set_option maxRecDepth 100000 in
theorem tyX12_ok : ∀ k, k < 131 → parseFieldDescriptor (TX12 k).2.2.1 = some (tyX12 k) := by decide +kernel
set_option maxRecDepth 100000 in
theorem in_X12 : ∀ w ∈ wsX120, w ∈ lw_all := lw_in wsX120 [3382, 3384, 3386, 3388, 3390, 3392, 3394, 3396, 3398, 3400, 3402, 3404, 3406, 3408, 3410, 3412, 3414, 3416, 3418, 3420, 3422, 3424, 3426, 3428, 3430, 3432, 3434, 3436, 3438, 3440, 3442, 3444, 3446, 3448, 3450, 3452, 3454, 3456, 3458, 3460, 3462, 3464, 3466, 3468, 3470, 3472, 3474, 3476, 3478, 3480, 3482, 3484, 3486, 3488, 3490, 3492, 3494, 3496, 3498, 3500, 3502, 3504, 3506, 3508, 3510, 3512, 3514, 3516, 3518, 3520, 3522, 3524, 3526, 3528, 3530, 3532, 3534, 3536, 3538, 3540, 3542, 3544, 3546, 3548, 3550, 3552, 3554, 3556, 3558, 3560, 3562, 3564, 3566, 3568, 3570, 3572, 3574, 3576, 3578, 3580, 3582, 3584, 3586, 3588, 3590, 3592, 3594, 3596, 3598, 3600, 3602, 3604, 3606, 3608, 3610, 3612, 3614, 3616, 3618, 3620, 3622, 3624, 3626, 3628, 3630, 3632, 3634, 3636, 3638, 3640, 3642] (by decide +kernel) (by decide +kernel)
def RX13 : String := "PascalHouseModel$Type"
def TX13 : u_T := fun k => match k with
  | 0 => ("PascalHouseModel$Type", "sort", "I", true)
  | 1 => ("PascalHouseModel$Type", "low", "I", false)
  | 2 => ("PascalHouseModel$Type", "high", "I", false)
  | 3 => ("PascalHouseModel$Type", "host", "LPascalHouseModel$Type;", false)
  | 4 => ("PascalHouseModel$Type", "index", "LPascalHouseModel$Type;", false)
  | 5 => ("PascalHouseModel$Type", "part", "LPascalHouseModel$Type;", false)
  | 6 => ("PascalHouseModel$Type", "cells", "J", false)
  | _ => ("PascalHouseModel$Type", "fields", "Ljava/util/ArrayList;", false)
def tyX13 : Nat → FieldType := fun k => match k with
  | 0 => .int
  | 1 => .int
  | 2 => .int
  | 3 => .object "PascalHouseModel$Type"
  | 4 => .object "PascalHouseModel$Type"
  | 5 => .object "PascalHouseModel$Type"
  | 6 => .long
  | _ => .object "java/util/ArrayList"
abbrev wsX130 : List Cond := u_ws RX13 TX13 8
set_option maxRecDepth 100000 in
theorem nmX13 : ∀ a, a < 8 → ∀ b, b < 8 → a ≠ b → (TX13 a).2.1 ≠ (TX13 b).2.1 := by decide +kernel
set_option maxRecDepth 100000 in
theorem tyX13_ok : ∀ k, k < 8 → parseFieldDescriptor (TX13 k).2.2.1 = some (tyX13 k) := by decide +kernel
set_option maxRecDepth 100000 in
theorem in_X13 : ∀ w ∈ wsX130, w ∈ lw_all := lw_in wsX130 [3228, 3230, 3232, 3234, 3236, 3238, 3240, 3242] (by decide +kernel) (by decide +kernel)
def RX14 : String := "PascalHouse$Symbol"
def TX14 : u_T := fun k => match k with
  | 0 => ("PascalHouse$Symbol", "sort", "LPascalHouse$Sort;", true)
  | 1 => ("PascalHouse$Symbol", "text", "Ljava/lang/String;", true)
  | 2 => ("PascalHouse$Symbol", "place", "I", true)
  | 3 => ("PascalHouse$Symbol", "number", "I", true)
  | _ => ("PascalHouse$Symbol", "real", "D", true)
def tyX14 : Nat → FieldType := fun k => match k with
  | 0 => .object "PascalHouse$Sort"
  | 1 => .object "java/lang/String"
  | 2 => .int
  | 3 => .int
  | _ => .double
abbrev wsX140 : List Cond := u_ws RX14 TX14 5
set_option maxRecDepth 100000 in
theorem nmX14 : ∀ a, a < 5 → ∀ b, b < 5 → a ≠ b → (TX14 a).2.1 ≠ (TX14 b).2.1 := by decide +kernel
set_option maxRecDepth 100000 in
theorem tyX14_ok : ∀ k, k < 5 → parseFieldDescriptor (TX14 k).2.2.1 = some (tyX14 k) := by decide +kernel
set_option maxRecDepth 100000 in
theorem in_X14 : ∀ w ∈ wsX140, w ∈ lw_all := lw_in wsX140 [1616, 1618, 1620, 1622, 1624] (by decide +kernel) (by decide +kernel)
def RX15 : String := "PascalHouse$Tree"
def TX15 : u_T := fun k => match k with
  | 0 => ("PascalHouse$Tree", "kind", "I", true)
  | 1 => ("PascalHouse$Tree", "at", "LPascalHouse$Symbol;", true)
  | 2 => ("PascalHouse$Tree", "first", "LPascalHouse$Tree;", false)
  | 3 => ("PascalHouse$Tree", "last", "LPascalHouse$Tree;", false)
  | 4 => ("PascalHouse$Tree", "next", "LPascalHouse$Tree;", false)
  | _ => ("PascalHouse$Tree", "many", "I", false)
def tyX15 : Nat → FieldType := fun k => match k with
  | 0 => .int
  | 1 => .object "PascalHouse$Symbol"
  | 2 => .object "PascalHouse$Tree"
  | 3 => .object "PascalHouse$Tree"
  | 4 => .object "PascalHouse$Tree"
  | _ => .int
abbrev wsX150 : List Cond := u_ws RX15 TX15 6
set_option maxRecDepth 100000 in
theorem nmX15 : ∀ a, a < 6 → ∀ b, b < 6 → a ≠ b → (TX15 a).2.1 ≠ (TX15 b).2.1 := by decide +kernel
set_option maxRecDepth 100000 in
theorem tyX15_ok : ∀ k, k < 6 → parseFieldDescriptor (TX15 k).2.2.1 = some (tyX15 k) := by decide +kernel
set_option maxRecDepth 100000 in
theorem in_X15 : ∀ w ∈ wsX150, w ∈ lw_all := lw_in wsX150 [1769, 1771, 1773, 1775, 1777, 1779] (by decide +kernel) (by decide +kernel)
def RX16 : String := "PascalHouse$Routine"
def TX16 : u_T := fun k => match k with
  | 0 => ("PascalHouse$Routine", "name", "Ljava/lang/String;", true)
  | 1 => ("PascalHouse$Routine", "function", "Z", true)
  | 2 => ("PascalHouse$Routine", "place", "I", true)
  | 3 => ("PascalHouse$Routine", "parameters", "Ljava/util/ArrayList;", true)
  | 4 => ("PascalHouse$Routine", "result", "LPascalHouse$Type;", false)
  | 5 => ("PascalHouse$Routine", "scope", "LPascalHouse$Scope;", false)
  | 6 => ("PascalHouse$Routine", "level", "I", false)
  | 7 => ("PascalHouse$Routine", "entry", "I", false)
  | 8 => ("PascalHouse$Routine", "size", "I", false)
  | 9 => ("PascalHouse$Routine", "number", "I", false)
  | 10 => ("PascalHouse$Routine", "offset", "I", false)
  | 11 => ("PascalHouse$Routine", "outerLevel", "I", false)
  | 12 => ("PascalHouse$Routine", "formal", "Z", false)
  | 13 => ("PascalHouse$Routine", "forward", "Z", false)
  | 14 => ("PascalHouse$Routine", "assigned", "Z", false)
  | _ => ("PascalHouse$Routine", "files", "Ljava/util/ArrayList;", true)
def tyX16 : Nat → FieldType := fun k => match k with
  | 0 => .object "java/lang/String"
  | 1 => .boolean
  | 2 => .int
  | 3 => .object "java/util/ArrayList"
  | 4 => .object "PascalHouse$Type"
  | 5 => .object "PascalHouse$Scope"
  | 6 => .int
  | 7 => .int
  | 8 => .int
  | 9 => .int
  | 10 => .int
  | 11 => .int
  | 12 => .boolean
  | 13 => .boolean
  | 14 => .boolean
  | _ => .object "java/util/ArrayList"
abbrev wsX160 : List Cond := u_ws RX16 TX16 16
set_option maxRecDepth 100000 in
theorem nmX16 : ∀ a, a < 16 → ∀ b, b < 16 → a ≠ b → (TX16 a).2.1 ≠ (TX16 b).2.1 := by decide +kernel
set_option maxRecDepth 100000 in
theorem tyX16_ok : ∀ k, k < 16 → parseFieldDescriptor (TX16 k).2.2.1 = some (tyX16 k) := by decide +kernel
set_option maxRecDepth 100000 in
theorem in_X16 : ∀ w ∈ wsX160, w ∈ lw_all := lw_in wsX160 [2052, 2054, 2056, 2058, 2060, 2062, 2064, 2066, 2068, 2070, 2072, 2074, 2076, 2078, 2080, 2082] (by decide +kernel) (by decide +kernel)
def RX17 : String := "PascalHouse$Block"
def TX17 : u_T := fun k => match k with
  | 0 => ("PascalHouse$Block", "outer", "LPascalHouse$Block;", true)
  | 1 => ("PascalHouse$Block", "routine", "LPascalHouse$Routine;", true)
  | 2 => ("PascalHouse$Block", "scope", "LPascalHouse$Scope;", true)
  | 3 => ("PascalHouse$Block", "labels", "Ljava/util/ArrayList;", true)
  | 4 => ("PascalHouse$Block", "leaps", "Ljava/util/ArrayList;", true)
  | 5 => ("PascalHouse$Block", "rows", "[I", true)
  | 6 => ("PascalHouse$Block", "statements", "[I", true)
  | 7 => ("PascalHouse$Block", "rowCount", "I", false)
  | 8 => ("PascalHouse$Block", "statementCount", "I", false)
  | 9 => ("PascalHouse$Block", "temporaries", "I", false)
  | _ => ("PascalHouse$Block", "body", "I", false)
def tyX17 : Nat → FieldType := fun k => match k with
  | 0 => .object "PascalHouse$Block"
  | 1 => .object "PascalHouse$Routine"
  | 2 => .object "PascalHouse$Scope"
  | 3 => .object "java/util/ArrayList"
  | 4 => .object "java/util/ArrayList"
  | 5 => .array .int
  | 6 => .array .int
  | 7 => .int
  | 8 => .int
  | 9 => .int
  | _ => .int
abbrev wsX170 : List Cond := u_ws RX17 TX17 11
set_option maxRecDepth 100000 in
theorem nmX17 : ∀ a, a < 11 → ∀ b, b < 11 → a ≠ b → (TX17 a).2.1 ≠ (TX17 b).2.1 := by decide +kernel
set_option maxRecDepth 100000 in
theorem tyX17_ok : ∀ k, k < 11 → parseFieldDescriptor (TX17 k).2.2.1 = some (tyX17 k) := by decide +kernel
set_option maxRecDepth 100000 in
theorem in_X17 : ∀ w ∈ wsX170, w ∈ lw_all := lw_in wsX170 [2166, 2168, 2170, 2172, 2174, 2176, 2178, 2180, 2182, 2184, 2186] (by decide +kernel) (by decide +kernel)
def RX18 : String := "PascalHouse$Label"
def TX18 : u_T := fun k => match k with
  | 0 => ("PascalHouse$Label", "number", "I", true)
  | 1 => ("PascalHouse$Label", "index", "I", true)
  | 2 => ("PascalHouse$Label", "marks", "Z", false)
  | 3 => ("PascalHouse$Label", "row", "I", false)
  | _ => ("PascalHouse$Label", "statement", "I", false)
def tyX18 : Nat → FieldType := fun k => match k with
  | 0 => .int
  | 1 => .int
  | 2 => .boolean
  | 3 => .int
  | _ => .int
abbrev wsX180 : List Cond := u_ws RX18 TX18 5
set_option maxRecDepth 100000 in
theorem nmX18 : ∀ a, a < 5 → ∀ b, b < 5 → a ≠ b → (TX18 a).2.1 ≠ (TX18 b).2.1 := by decide +kernel
set_option maxRecDepth 100000 in
theorem tyX18_ok : ∀ k, k < 5 → parseFieldDescriptor (TX18 k).2.2.1 = some (tyX18 k) := by decide +kernel
set_option maxRecDepth 100000 in
theorem in_X18 : ∀ w ∈ wsX180, w ∈ lw_all := lw_in wsX180 [2218, 2220, 2222, 2224, 2226] (by decide +kernel) (by decide +kernel)
def RX19 : String := "PascalHouse$Part"
def TX19 : u_T := fun k => match k with
  | 0 => ("PascalHouse$Part", "outer", "LPascalHouse$Part;", true)
  | 1 => ("PascalHouse$Part", "outerChoice", "I", true)
  | 2 => ("PascalHouse$Part", "tag", "I", true)
  | 3 => ("PascalHouse$Part", "from", "I", false)
  | 4 => ("PascalHouse$Part", "to", "I", false)
  | 5 => ("PascalHouse$Part", "tagged", "Z", false)
  | 6 => ("PascalHouse$Part", "type", "LPascalHouse$Type;", false)
  | 7 => ("PascalHouse$Part", "constants", "[I", false)
  | 8 => ("PascalHouse$Part", "choices", "[I", false)
  | _ => ("PascalHouse$Part", "many", "I", false)
def tyX19 : Nat → FieldType := fun k => match k with
  | 0 => .object "PascalHouse$Part"
  | 1 => .int
  | 2 => .int
  | 3 => .int
  | 4 => .int
  | 5 => .boolean
  | 6 => .object "PascalHouse$Type"
  | 7 => .array .int
  | 8 => .array .int
  | _ => .int
abbrev wsX190 : List Cond := u_ws RX19 TX19 10
set_option maxRecDepth 100000 in
theorem nmX19 : ∀ a, a < 10 → ∀ b, b < 10 → a ≠ b → (TX19 a).2.1 ≠ (TX19 b).2.1 := by decide +kernel
set_option maxRecDepth 100000 in
theorem tyX19_ok : ∀ k, k < 10 → parseFieldDescriptor (TX19 k).2.2.1 = some (tyX19 k) := by decide +kernel
set_option maxRecDepth 100000 in
theorem in_X19 : ∀ w ∈ wsX190, w ∈ lw_all := lw_in wsX190 [2340, 2342, 2344, 2346, 2348, 2350, 2352, 2354, 2356, 2358] (by decide +kernel) (by decide +kernel)
def RX20 : String := "PascalHouse$Field"
def TX20 : u_T := fun k => match k with
  | 0 => ("PascalHouse$Field", "name", "Ljava/lang/String;", true)
  | 1 => ("PascalHouse$Field", "type", "LPascalHouse$Type;", true)
  | 2 => ("PascalHouse$Field", "offset", "I", true)
  | 3 => ("PascalHouse$Field", "choice", "I", true)
  | 4 => ("PascalHouse$Field", "part", "LPascalHouse$Part;", true)
  | _ => ("PascalHouse$Field", "tagOf", "LPascalHouse$Part;", false)
def tyX20 : Nat → FieldType := fun k => match k with
  | 0 => .object "java/lang/String"
  | 1 => .object "PascalHouse$Type"
  | 2 => .int
  | 3 => .int
  | 4 => .object "PascalHouse$Part"
  | _ => .object "PascalHouse$Part"
abbrev wsX200 : List Cond := u_ws RX20 TX20 6
set_option maxRecDepth 100000 in
theorem nmX20 : ∀ a, a < 6 → ∀ b, b < 6 → a ≠ b → (TX20 a).2.1 ≠ (TX20 b).2.1 := by decide +kernel
set_option maxRecDepth 100000 in
theorem tyX20_ok : ∀ k, k < 6 → parseFieldDescriptor (TX20 k).2.2.1 = some (tyX20 k) := by decide +kernel
set_option maxRecDepth 100000 in
theorem in_X20 : ∀ w ∈ wsX200, w ∈ lw_all := lw_in wsX200 [2382, 2384, 2386, 2388, 2390, 2392] (by decide +kernel) (by decide +kernel)
def RX21 : String := "PascalHouse$Parameter"
def TX21 : u_T := fun k => match k with
  | 0 => ("PascalHouse$Parameter", "sort", "I", true)
  | 1 => ("PascalHouse$Parameter", "type", "LPascalHouse$Type;", true)
  | 2 => ("PascalHouse$Parameter", "shape", "LPascalHouse$Routine;", true)
  | 3 => ("PascalHouse$Parameter", "item", "LPascalHouse$Item;", false)
  | _ => ("PascalHouse$Parameter", "at", "I", false)
def tyX21 : Nat → FieldType := fun k => match k with
  | 0 => .int
  | 1 => .object "PascalHouse$Type"
  | 2 => .object "PascalHouse$Routine"
  | 3 => .object "PascalHouse$Item"
  | _ => .int
abbrev wsX210 : List Cond := u_ws RX21 TX21 5
set_option maxRecDepth 100000 in
theorem nmX21 : ∀ a, a < 5 → ∀ b, b < 5 → a ≠ b → (TX21 a).2.1 ≠ (TX21 b).2.1 := by decide +kernel
set_option maxRecDepth 100000 in
theorem tyX21_ok : ∀ k, k < 5 → parseFieldDescriptor (TX21 k).2.2.1 = some (tyX21 k) := by decide +kernel
set_option maxRecDepth 100000 in
theorem in_X21 : ∀ w ∈ wsX210, w ∈ lw_all := lw_in wsX210 [2475, 2477, 2479, 2481, 2483] (by decide +kernel) (by decide +kernel)
def RX22 : String := "PascalHouse$Leap"
def TX22 : u_T := fun k => match k with
  | 0 => ("PascalHouse$Leap", "label", "LPascalHouse$Label;", true)
  | 1 => ("PascalHouse$Leap", "place", "I", true)
  | 2 => ("PascalHouse$Leap", "foreign", "Z", true)
  | 3 => ("PascalHouse$Leap", "rows", "[I", true)
  | _ => ("PascalHouse$Leap", "statements", "[I", true)
def tyX22 : Nat → FieldType := fun k => match k with
  | 0 => .object "PascalHouse$Label"
  | 1 => .int
  | 2 => .boolean
  | 3 => .array .int
  | _ => .array .int
abbrev wsX220 : List Cond := u_ws RX22 TX22 5
set_option maxRecDepth 100000 in
theorem nmX22 : ∀ a, a < 5 → ∀ b, b < 5 → a ≠ b → (TX22 a).2.1 ≠ (TX22 b).2.1 := by decide +kernel
set_option maxRecDepth 100000 in
theorem tyX22_ok : ∀ k, k < 5 → parseFieldDescriptor (TX22 k).2.2.1 = some (tyX22 k) := by decide +kernel
set_option maxRecDepth 100000 in
theorem in_X22 : ∀ w ∈ wsX220, w ∈ lw_all := lw_in wsX220 [2751, 2753, 2755, 2757, 2759] (by decide +kernel) (by decide +kernel)
def RX23 : String := "PascalHouseModel$Symbol"
def TX23 : u_T := fun k => match k with
  | 0 => ("PascalHouseModel$Symbol", "sort", "I", true)
  | 1 => ("PascalHouseModel$Symbol", "name", "I", true)
  | 2 => ("PascalHouseModel$Symbol", "type", "LPascalHouseModel$Type;", false)
  | 3 => ("PascalHouseModel$Symbol", "value", "J", false)
  | 4 => ("PascalHouseModel$Symbol", "real", "D", false)
  | 5 => ("PascalHouseModel$Symbol", "level", "I", false)
  | 6 => ("PascalHouseModel$Symbol", "offset", "I", false)
  | 7 => ("PascalHouseModel$Symbol", "refers", "Z", false)
  | 8 => ("PascalHouseModel$Symbol", "isParameter", "Z", false)
  | 9 => ("PascalHouseModel$Symbol", "isFormal", "Z", false)
  | 10 => ("PascalHouseModel$Symbol", "isOwn", "Z", false)
  | 11 => ("PascalHouseModel$Symbol", "isThreatened", "Z", false)
  | 12 => ("PascalHouseModel$Symbol", "variants", "LPascalHouseModel$Variants;", false)
  | 13 => ("PascalHouseModel$Symbol", "tags", "LPascalHouseModel$Variants;", false)
  | 14 => ("PascalHouseModel$Symbol", "choice", "I", false)
  | 15 => ("PascalHouseModel$Symbol", "there", "I", false)
  | 16 => ("PascalHouseModel$Symbol", "number", "I", false)
  | 17 => ("PascalHouseModel$Symbol", "isFunction", "Z", false)
  | 18 => ("PascalHouseModel$Symbol", "isForward", "Z", false)
  | 19 => ("PascalHouseModel$Symbol", "hasBlock", "Z", false)
  | 20 => ("PascalHouseModel$Symbol", "isAssigned", "Z", false)
  | 21 => ("PascalHouseModel$Symbol", "isOpen", "Z", false)
  | 22 => ("PascalHouseModel$Symbol", "parameters", "Ljava/util/ArrayList;", true)
  | 23 => ("PascalHouseModel$Symbol", "region", "Ljava/util/ArrayList;", false)
  | 24 => ("PascalHouseModel$Symbol", "block", "I", false)
  | 25 => ("PascalHouseModel$Symbol", "nameToken", "I", false)
  | 26 => ("PascalHouseModel$Symbol", "cells", "I", false)
  | _ => ("PascalHouseModel$Symbol", "result", "I", false)
def tyX23 : Nat → FieldType := fun k => match k with
  | 0 => .int
  | 1 => .int
  | 2 => .object "PascalHouseModel$Type"
  | 3 => .long
  | 4 => .double
  | 5 => .int
  | 6 => .int
  | 7 => .boolean
  | 8 => .boolean
  | 9 => .boolean
  | 10 => .boolean
  | 11 => .boolean
  | 12 => .object "PascalHouseModel$Variants"
  | 13 => .object "PascalHouseModel$Variants"
  | 14 => .int
  | 15 => .int
  | 16 => .int
  | 17 => .boolean
  | 18 => .boolean
  | 19 => .boolean
  | 20 => .boolean
  | 21 => .boolean
  | 22 => .object "java/util/ArrayList"
  | 23 => .object "java/util/ArrayList"
  | 24 => .int
  | 25 => .int
  | 26 => .int
  | _ => .int
abbrev wsX230 : List Cond := u_ws RX23 TX23 28
set_option maxRecDepth 100000 in
theorem nmX23 : ∀ a, a < 28 → ∀ b, b < 28 → a ≠ b → (TX23 a).2.1 ≠ (TX23 b).2.1 := by decide +kernel
set_option maxRecDepth 100000 in
theorem tyX23_ok : ∀ k, k < 28 → parseFieldDescriptor (TX23 k).2.2.1 = some (tyX23 k) := by decide +kernel
set_option maxRecDepth 100000 in
theorem in_X23 : ∀ w ∈ wsX230, w ∈ lw_all := lw_in wsX230 [3973, 3975, 3977, 3979, 3981, 3983, 3985, 3987, 3989, 3991, 3993, 3995, 3997, 3999, 4001, 4003, 4005, 4007, 4009, 4011, 4013, 4015, 4017, 4019, 4021, 4023, 4025, 4027] (by decide +kernel) (by decide +kernel)
def RX24 : String := "PascalHouseModel$Scope"
def TX24 : u_T := fun k => match k with
  | 0 => ("PascalHouseModel$Scope", "labels", "Ljava/util/ArrayList;", true)
  | 1 => ("PascalHouseModel$Scope", "jumps", "Ljava/util/ArrayList;", true)
  | 2 => ("PascalHouseModel$Scope", "cells", "I", false)
  | _ => ("PascalHouseModel$Scope", "compound", "I", false)
def tyX24 : Nat → FieldType := fun k => match k with
  | 0 => .object "java/util/ArrayList"
  | 1 => .object "java/util/ArrayList"
  | 2 => .int
  | _ => .int
abbrev wsX240 : List Cond := u_ws RX24 TX24 4
set_option maxRecDepth 100000 in
theorem nmX24 : ∀ a, a < 4 → ∀ b, b < 4 → a ≠ b → (TX24 a).2.1 ≠ (TX24 b).2.1 := by decide +kernel
set_option maxRecDepth 100000 in
theorem tyX24_ok : ∀ k, k < 4 → parseFieldDescriptor (TX24 k).2.2.1 = some (tyX24 k) := by decide +kernel
set_option maxRecDepth 100000 in
theorem in_X24 : ∀ w ∈ wsX240, w ∈ lw_all := lw_in wsX240 [4086, 4088, 4090, 4092] (by decide +kernel) (by decide +kernel)
def RX25 : String := "PascalHouseModel$Label"
def TX25 : u_T := fun k => match k with
  | 0 => ("PascalHouseModel$Label", "number", "I", true)
  | _ => ("PascalHouseModel$Label", "statement", "I", false)
def tyX25 : Nat → FieldType := fun k => match k with
  | 0 => .int
  | _ => .int
abbrev wsX250 : List Cond := u_ws RX25 TX25 2
set_option maxRecDepth 100000 in
theorem nmX25 : ∀ a, a < 2 → ∀ b, b < 2 → a ≠ b → (TX25 a).2.1 ≠ (TX25 b).2.1 := by decide +kernel
set_option maxRecDepth 100000 in
theorem tyX25_ok : ∀ k, k < 2 → parseFieldDescriptor (TX25 k).2.2.1 = some (tyX25 k) := by decide +kernel
set_option maxRecDepth 100000 in
theorem in_X25 : ∀ w ∈ wsX250, w ∈ lw_all := lw_in wsX250 [4148, 4150] (by decide +kernel) (by decide +kernel)
def RX26 : String := "PascalHouseModel$Variants"
def TX26 : u_T := fun k => match k with
  | 0 => ("PascalHouseModel$Variants", "outer", "LPascalHouseModel$Variants;", true)
  | 1 => ("PascalHouseModel$Variants", "outerChoice", "I", true)
  | 2 => ("PascalHouseModel$Variants", "hasTag", "Z", false)
  | 3 => ("PascalHouseModel$Variants", "tag", "I", false)
  | 4 => ("PascalHouseModel$Variants", "from", "I", false)
  | 5 => ("PascalHouseModel$Variants", "to", "I", false)
  | 6 => ("PascalHouseModel$Variants", "constants", "[I", true)
  | 7 => ("PascalHouseModel$Variants", "choices", "[I", true)
  | _ => ("PascalHouseModel$Variants", "many", "I", false)
def tyX26 : Nat → FieldType := fun k => match k with
  | 0 => .object "PascalHouseModel$Variants"
  | 1 => .int
  | 2 => .boolean
  | 3 => .int
  | 4 => .int
  | 5 => .int
  | 6 => .array .int
  | 7 => .array .int
  | _ => .int
abbrev wsX260 : List Cond := u_ws RX26 TX26 9
set_option maxRecDepth 100000 in
theorem nmX26 : ∀ a, a < 9 → ∀ b, b < 9 → a ≠ b → (TX26 a).2.1 ≠ (TX26 b).2.1 := by decide +kernel
set_option maxRecDepth 100000 in
theorem tyX26_ok : ∀ k, k < 9 → parseFieldDescriptor (TX26 k).2.2.1 = some (tyX26 k) := by decide +kernel
set_option maxRecDepth 100000 in
theorem in_X26 : ∀ w ∈ wsX260, w ∈ lw_all := lw_in wsX260 [4224, 4226, 4228, 4230, 4232, 4234, 4236, 4238, 4240] (by decide +kernel) (by decide +kernel)
def RX27 : String := "PascalHouseModel$Jump"
def TX27 : u_T := fun k => match k with
  | 0 => ("PascalHouseModel$Jump", "node", "I", true)
  | 1 => ("PascalHouseModel$Jump", "label", "LPascalHouseModel$Label;", true)
  | _ => ("PascalHouseModel$Jump", "fromWithin", "Z", true)
def tyX27 : Nat → FieldType := fun k => match k with
  | 0 => .int
  | 1 => .object "PascalHouseModel$Label"
  | _ => .boolean
abbrev wsX270 : List Cond := u_ws RX27 TX27 3
set_option maxRecDepth 100000 in
theorem nmX27 : ∀ a, a < 3 → ∀ b, b < 3 → a ≠ b → (TX27 a).2.1 ≠ (TX27 b).2.1 := by decide +kernel
set_option maxRecDepth 100000 in
theorem tyX27_ok : ∀ k, k < 3 → parseFieldDescriptor (TX27 k).2.2.1 = some (tyX27 k) := by decide +kernel
set_option maxRecDepth 100000 in
theorem in_X27 : ∀ w ∈ wsX270, w ∈ lw_all := lw_in wsX270 [4437, 4439, 4441] (by decide +kernel) (by decide +kernel)
def RJ2 : String := "java/util/ArrayList"
def TJ2 : u_T := fun k => match k with
  | 0 => ("java/util/AbstractList", "modCount", "I", false)
  | 1 => ("java/util/ArrayList", "elementData", "[Ljava/lang/Object;", false)
  | _ => ("java/util/ArrayList", "size", "I", false)
def tyJ2 : Nat → FieldType := fun k => match k with
  | 0 => .int
  | 1 => .array (.object "java/lang/Object")
  | _ => .int
abbrev wsJ20 : List Cond := u_ws RJ2 TJ2 3
set_option maxRecDepth 100000 in
theorem nmJ2 : ∀ a, a < 3 → ∀ b, b < 3 → a ≠ b → (TJ2 a).2.1 ≠ (TJ2 b).2.1 := by decide +kernel
set_option maxRecDepth 100000 in
theorem tyJ2_ok : ∀ k, k < 3 → parseFieldDescriptor (TJ2 k).2.2.1 = some (tyJ2 k) := by decide +kernel
set_option maxRecDepth 100000 in
theorem in_J2 : ∀ w ∈ wsJ20, w ∈ lw_all := lw_in wsJ20 [525, 521, 523] (by decide +kernel) (by decide +kernel)
def RJ4 : String := "java/lang/StringBuilder"
def TJ4 : u_T := fun k => match k with
  | 0 => ("java/lang/AbstractStringBuilder", "value", "[B", false)
  | 1 => ("java/lang/AbstractStringBuilder", "coder", "B", false)
  | 2 => ("java/lang/AbstractStringBuilder", "maybeLatin1", "Z", false)
  | _ => ("java/lang/AbstractStringBuilder", "count", "I", false)
def tyJ4 : Nat → FieldType := fun k => match k with
  | 0 => .array .byte
  | 1 => .byte
  | 2 => .boolean
  | _ => .int
abbrev wsJ40 : List Cond := u_ws RJ4 TJ4 4
set_option maxRecDepth 100000 in
theorem nmJ4 : ∀ a, a < 4 → ∀ b, b < 4 → a ≠ b → (TJ4 a).2.1 ≠ (TJ4 b).2.1 := by decide +kernel
set_option maxRecDepth 100000 in
theorem tyJ4_ok : ∀ k, k < 4 → parseFieldDescriptor (TJ4 k).2.2.1 = some (tyJ4 k) := by decide +kernel
set_option maxRecDepth 100000 in
theorem in_J4 : ∀ w ∈ wsJ40, w ∈ lw_all := lw_in wsJ40 [632, 634, 636, 638] (by decide +kernel) (by decide +kernel)
def RJ5 : String := "java/lang/String"
def TJ5 : u_T := fun k => match k with
  | 0 => ("java/lang/String", "value", "[B", true)
  | 1 => ("java/lang/String", "coder", "B", true)
  | 2 => ("java/lang/String", "hash", "I", false)
  | _ => ("java/lang/String", "hashIsZero", "Z", false)
def tyJ5 : Nat → FieldType := fun k => match k with
  | 0 => .array .byte
  | 1 => .byte
  | 2 => .int
  | _ => .boolean
abbrev wsJ50 : List Cond := u_ws RJ5 TJ5 4
set_option maxRecDepth 100000 in
theorem nmJ5 : ∀ a, a < 4 → ∀ b, b < 4 → a ≠ b → (TJ5 a).2.1 ≠ (TJ5 b).2.1 := by decide +kernel
set_option maxRecDepth 100000 in
theorem tyJ5_ok : ∀ k, k < 4 → parseFieldDescriptor (TJ5 k).2.2.1 = some (tyJ5 k) := by decide +kernel
set_option maxRecDepth 100000 in
theorem in_J5 : ∀ w ∈ wsJ50, w ∈ lw_all := lw_in wsJ50 [952, 954, 956, 958] (by decide +kernel) (by decide +kernel)
def RJ15 : String := "java/lang/IllegalStateException"
def TJ15 : u_T := fun k => match k with
  | 0 => ("java/lang/Throwable", "cause", "Ljava/lang/Throwable;", false)
  | 1 => ("java/lang/Throwable", "stackTrace", "[Ljava/lang/StackTraceElement;", false)
  | 2 => ("java/lang/Throwable", "suppressedExceptions", "Ljava/util/List;", false)
  | 3 => ("java/lang/Throwable", "detailMessage", "Ljava/lang/String;", false)
  | 4 => ("java/lang/Throwable", "backtrace", "Ljava/lang/Object;", false)
  | _ => ("java/lang/Throwable", "depth", "I", false)
def tyJ15 : Nat → FieldType := fun k => match k with
  | 0 => .object "java/lang/Throwable"
  | 1 => .array (.object "java/lang/StackTraceElement")
  | 2 => .object "java/util/List"
  | 3 => .object "java/lang/String"
  | 4 => .object "java/lang/Object"
  | _ => .int
abbrev wsJ150 : List Cond := u_ws RJ15 TJ15 6
set_option maxRecDepth 100000 in
theorem nmJ15 : ∀ a, a < 6 → ∀ b, b < 6 → a ≠ b → (TJ15 a).2.1 ≠ (TJ15 b).2.1 := by decide +kernel
set_option maxRecDepth 100000 in
theorem tyJ15_ok : ∀ k, k < 6 → parseFieldDescriptor (TJ15 k).2.2.1 = some (tyJ15 k) := by decide +kernel
set_option maxRecDepth 100000 in
theorem in_J15 : ∀ w ∈ wsJ150, w ∈ lw_all := lw_in wsJ150 [1510, 1512, 1514, 1516, 1518, 1556] (by decide +kernel) (by decide +kernel)
/-- the classes by number: an object of class k has the tag k + 1 -/
def xcl : List vw_C := [(RX0, TX0, 21), (RX1, TX1, 2), (RX2, TX2, 17), (RX3, TX3, 5), (RX4, TX4, 6), (RX5, TX5, 29), (RX6, TX6, 9), (RX7, TX7, 4), (RX8, TX8, 12), (RX9, TX9, 31), (RX10, TX10, 4), (RX11, TX11, 16), (RX12, TX12, 131), (RX13, TX13, 8), (RX14, TX14, 5), (RX15, TX15, 6), (RX16, TX16, 16), (RX17, TX17, 11), (RX18, TX18, 5), (RX19, TX19, 10), (RX20, TX20, 6), (RX21, TX21, 5), (RX22, TX22, 5), (RX23, TX23, 28), (RX24, TX24, 4), (RX25, TX25, 2), (RX26, TX26, 9), (RX27, TX27, 3), (RJ2, TJ2, 3), (RJ4, TJ4, 4), (RJ5, TJ5, 4), (RJ15, TJ15, 6)]
/-- the type of field k of class c -/
def xty : Nat → Nat → FieldType := fun c => match c with
  | 0 => tyX0
  | 1 => tyX1
  | 2 => tyX2
  | 3 => tyX3
  | 4 => tyX4
  | 5 => tyX5
  | 6 => tyX6
  | 7 => tyX7
  | 8 => tyX8
  | 9 => tyX9
  | 10 => tyX10
  | 11 => tyX11
  | 12 => tyX12
  | 13 => tyX13
  | 14 => tyX14
  | 15 => tyX15
  | 16 => tyX16
  | 17 => tyX17
  | 18 => tyX18
  | 19 => tyX19
  | 20 => tyX20
  | 21 => tyX21
  | 22 => tyX22
  | 23 => tyX23
  | 24 => tyX24
  | 25 => tyX25
  | 26 => tyX26
  | 27 => tyX27
  | 28 => tyJ2
  | 29 => tyJ4
  | 30 => tyJ5
  | _ => tyJ15
