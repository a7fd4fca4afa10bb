/-! the classes of the world -/
set_option maxRecDepth 100000
def RX1 : String := "FiddleRow"
def TX1 : u_T := fun k => match k with
  | 0 => ("FiddleRow", "history", "LFiddleRow$History;", true)
  | 1 => ("FiddleRow", "buffer", "[B", true)
  | 2 => ("FiddleRow", "length", "I", false)
  | 3 => ("FiddleRow", "errorCode", "I", false)
  | 4 => ("FiddleRow", "errorPosition", "I", false)
  | 5 => ("FiddleRow", "executed", "I", false)
  | _ => ("FiddleRow", "output", "Ljava/lang/StringBuilder;", true)
def tyX1 : Nat → FieldType := fun k => match k with
  | 0 => .object "FiddleRow$History"
  | 1 => .array .byte
  | 2 => .int
  | 3 => .int
  | 4 => .int
  | 5 => .int
  | _ => .object "java/lang/StringBuilder"
abbrev wsX10 : List Cond := u_ws RX1 TX1 7
theorem nmX1 : ∀ a, a < 7 → ∀ b, b < 7 → a ≠ b → (TX1 a).2.1 ≠ (TX1 b).2.1 := by decide +kernel
theorem tyX1_ok : ∀ k, k < 7 → parseFieldDescriptor (TX1 k).2.2.1 = some (tyX1 k) := by decide +kernel
theorem in_X1 : ∀ w ∈ wsX10, w ∈ lw_all := lw_in wsX10 [1987, 1989, 1991, 1993, 1995, 1997, 1999] (by decide +kernel) (by decide +kernel)
def RX2 : String := "FiddleRow$History"
def TX2 : u_T := fun k => match k with
  | 0 => ("FiddleRow$History", "earlier", "Ljava/util/ArrayDeque;", true)
  | 1 => ("FiddleRow$History", "slots", "Ljava/util/ArrayList;", true)
  | _ => ("FiddleRow$History", "present", "LFiddleRow$Copyable;", false)
def tyX2 : Nat → FieldType := fun k => match k with
  | 0 => .object "java/util/ArrayDeque"
  | 1 => .object "java/util/ArrayList"
  | _ => .object "FiddleRow$Copyable"
abbrev wsX20 : List Cond := u_ws RX2 TX2 3
theorem nmX2 : ∀ a, a < 3 → ∀ b, b < 3 → a ≠ b → (TX2 a).2.1 ≠ (TX2 b).2.1 := by decide +kernel
theorem tyX2_ok : ∀ k, k < 3 → parseFieldDescriptor (TX2 k).2.2.1 = some (tyX2 k) := by decide +kernel
theorem in_X2 : ∀ w ∈ wsX20, w ∈ lw_all := lw_in wsX20 [1968, 1970, 1972] (by decide +kernel) (by decide +kernel)
def RX3 : String := "FiddleRow$Hall"
def TX3 : u_T := fun k => match k with
  | 0 => ("FiddleRow$Hall", "hour", "I", false)
  | 1 => ("FiddleRow$Hall", "temperature", "I", false)
  | 2 => ("FiddleRow$Hall", "target", "I", false)
  | 3 => ("FiddleRow$Hall", "chalk", "I", false)
  | 4 => ("FiddleRow$Hall", "spares", "I", false)
  | 5 => ("FiddleRow$Hall", "rounds", "I", false)
  | 6 => ("FiddleRow$Hall", "turns", "I", false)
  | 7 => ("FiddleRow$Hall", "forgivenInAll", "I", false)
  | 8 => ("FiddleRow$Hall", "breaks", "I", false)
  | 9 => ("FiddleRow$Hall", "chalkUsed", "I", false)
  | 10 => ("FiddleRow$Hall", "sparesUsed", "I", false)
  | 11 => ("FiddleRow$Hall", "firstChalk", "I", true)
  | 12 => ("FiddleRow$Hall", "firstSpares", "I", true)
  | 13 => ("FiddleRow$Hall", "stretches", "[I", true)
  | 14 => ("FiddleRow$Hall", "fiddlers", "Ljava/util/ArrayList;", true)
  | 15 => ("FiddleRow$Hall", "row", "Ljava/util/ArrayList;", true)
  | 16 => ("FiddleRow$Hall", "pegs", "Ljava/util/LinkedHashMap;", true)
  | _ => ("FiddleRow$Hall", "forgiven", "Ljava/util/LinkedHashSet;", true)
def tyX3 : Nat → FieldType := fun k => match k with
  | 0 => .int
  | 1 => .int
  | 2 => .int
  | 3 => .int
  | 4 => .int
  | 5 => .int
  | 6 => .int
  | 7 => .int
  | 8 => .int
  | 9 => .int
  | 10 => .int
  | 11 => .int
  | 12 => .int
  | 13 => .array .int
  | 14 => .object "java/util/ArrayList"
  | 15 => .object "java/util/ArrayList"
  | 16 => .object "java/util/LinkedHashMap"
  | _ => .object "java/util/LinkedHashSet"
abbrev wsX30 : List Cond := u_ws RX3 TX3 18
theorem nmX3 : ∀ a, a < 18 → ∀ b, b < 18 → a ≠ b → (TX3 a).2.1 ≠ (TX3 b).2.1 := by decide +kernel
theorem tyX3_ok : ∀ k, k < 18 → parseFieldDescriptor (TX3 k).2.2.1 = some (tyX3 k) := by decide +kernel
theorem in_X3 : ∀ w ∈ wsX30, w ∈ lw_all := lw_in wsX30 [1193, 1195, 1197, 1199, 1201, 1203, 1205, 1207, 1209, 1211, 1213, 1215, 1217, 1219, 1221, 1223, 1225, 1227] (by decide +kernel) (by decide +kernel)
def RX4 : String := "FiddleRow$Fiddler"
def TX4 : u_T := fun k => match k with
  | 0 => ("FiddleRow$Fiddler", "number", "I", true)
  | 1 => ("FiddleRow$Fiddler", "patience", "I", true)
  | 2 => ("FiddleRow$Fiddler", "name", "Ljava/lang/String;", true)
  | 3 => ("FiddleRow$Fiddler", "tuned", "[I", true)
  | 4 => ("FiddleRow$Fiddler", "reference", "I", false)
  | 5 => ("FiddleRow$Fiddler", "chain", "I", false)
  | _ => ("FiddleRow$Fiddler", "obstacle", "I", false)
def tyX4 : Nat → FieldType := fun k => match k with
  | 0 => .int
  | 1 => .int
  | 2 => .object "java/lang/String"
  | 3 => .array .int
  | 4 => .int
  | 5 => .int
  | _ => .int
abbrev wsX40 : List Cond := u_ws RX4 TX4 7
theorem nmX4 : ∀ a, a < 7 → ∀ b, b < 7 → a ≠ b → (TX4 a).2.1 ≠ (TX4 b).2.1 := by decide +kernel
theorem tyX4_ok : ∀ k, k < 7 → parseFieldDescriptor (TX4 k).2.2.1 = some (tyX4 k) := by decide +kernel
theorem in_X4 : ∀ w ∈ wsX40, w ∈ lw_all := lw_in wsX40 [1270, 1272, 1274, 1276, 1278, 1280, 1282] (by decide +kernel) (by decide +kernel)
def RX5 : String := "FiddleRow$StringKey"
def TX5 : u_T := fun k => match k with
  | 0 => ("FiddleRow$StringKey", "fiddler", "I", true)
  | _ => ("FiddleRow$StringKey", "string", "I", true)
def tyX5 : Nat → FieldType := fun k => match k with
  | 0 => .int
  | _ => .int
abbrev wsX50 : List Cond := u_ws RX5 TX5 2
theorem nmX5 : ∀ a, a < 2 → ∀ b, b < 2 → a ≠ b → (TX5 a).2.1 ≠ (TX5 b).2.1 := by decide +kernel
theorem tyX5_ok : ∀ k, k < 2 → parseFieldDescriptor (TX5 k).2.2.1 = some (tyX5 k) := by decide +kernel
theorem in_X5 : ∀ w ∈ wsX50, w ∈ lw_all := lw_in wsX50 [1325, 1327] (by decide +kernel) (by decide +kernel)
def RX6 : String := "FiddleRow$Peg"
def TX6 : u_T := fun k => match k with
  | 0 => ("FiddleRow$Peg", "deviation", "I", false)
  | 1 => ("FiddleRow$Peg", "grip", "I", false)
  | _ => ("FiddleRow$Peg", "isBroken", "Z", false)
def tyX6 : Nat → FieldType := fun k => match k with
  | 0 => .int
  | 1 => .int
  | _ => .boolean
abbrev wsX60 : List Cond := u_ws RX6 TX6 3
theorem nmX6 : ∀ a, a < 3 → ∀ b, b < 3 → a ≠ b → (TX6 a).2.1 ≠ (TX6 b).2.1 := by decide +kernel
theorem tyX6_ok : ∀ k, k < 3 → parseFieldDescriptor (TX6 k).2.2.1 = some (tyX6 k) := by decide +kernel
theorem in_X6 : ∀ w ∈ wsX60, w ∈ lw_all := lw_in wsX60 [1345, 1347, 1349] (by decide +kernel) (by decide +kernel)
def RX7 : String := "FiddleRowModel"
def TX7 : u_T := fun k => match k with
  | 0 => ("FiddleRowModel", "s", "[I", true)
  | 1 => ("FiddleRowModel", "aside", "[I", true)
  | 2 => ("FiddleRowModel", "past", "[I", true)
  | 3 => ("FiddleRowModel", "slots", "[I", true)
  | 4 => ("FiddleRowModel", "isKept", "[Z", true)
  | 5 => ("FiddleRowModel", "undos", "I", false)
  | 6 => ("FiddleRowModel", "thrown", "I", false)
  | 7 => ("FiddleRowModel", "firstCents", "[I", true)
  | 8 => ("FiddleRowModel", "why", "[I", true)
  | 9 => ("FiddleRowModel", "stringWords", "[J", true)
  | 10 => ("FiddleRowModel", "buffer", "[I", true)
  | 11 => ("FiddleRowModel", "text", "[I", true)
  | 12 => ("FiddleRowModel", "buffered", "I", false)
  | 13 => ("FiddleRowModel", "limit", "I", false)
  | 14 => ("FiddleRowModel", "at", "I", false)
  | 15 => ("FiddleRowModel", "begin", "I", false)
  | 16 => ("FiddleRowModel", "token", "I", false)
  | 17 => ("FiddleRowModel", "number", "I", false)
  | 18 => ("FiddleRowModel", "bad", "I", false)
  | 19 => ("FiddleRowModel", "badAt", "I", false)
  | 20 => ("FiddleRowModel", "errorCode", "I", false)
  | 21 => ("FiddleRowModel", "errorPosition", "I", false)
  | 22 => ("FiddleRowModel", "word", "J", false)
  | 23 => ("FiddleRowModel", "isDoing", "Z", false)
  | 24 => ("FiddleRowModel", "isOverNow", "Z", false)
  | 25 => ("FiddleRowModel", "orders", "I", false)
  | 26 => ("FiddleRowModel", "open", "I", false)
  | 27 => ("FiddleRowModel", "done", "I", false)
  | 28 => ("FiddleRowModel", "opened", "[I", true)
  | 29 => ("FiddleRowModel", "again", "[I", true)
  | 30 => ("FiddleRowModel", "written", "[I", true)
  | _ => ("FiddleRowModel", "writtenMany", "I", false)
def tyX7 : Nat → FieldType := fun k => match k with
  | 0 => .array .int
  | 1 => .array .int
  | 2 => .array .int
  | 3 => .array .int
  | 4 => .array .boolean
  | 5 => .int
  | 6 => .int
  | 7 => .array .int
  | 8 => .array .int
  | 9 => .array .long
  | 10 => .array .int
  | 11 => .array .int
  | 12 => .int
  | 13 => .int
  | 14 => .int
  | 15 => .int
  | 16 => .int
  | 17 => .int
  | 18 => .int
  | 19 => .int
  | 20 => .int
  | 21 => .int
  | 22 => .long
  | 23 => .boolean
  | 24 => .boolean
  | 25 => .int
  | 26 => .int
  | 27 => .int
  | 28 => .array .int
  | 29 => .array .int
  | 30 => .array .int
  | _ => .int
abbrev wsX70 : List Cond := u_ws RX7 TX7 32
theorem nmX7 : ∀ a, a < 32 → ∀ b, b < 32 → a ≠ b → (TX7 a).2.1 ≠ (TX7 b).2.1 := by decide +kernel
theorem tyX7_ok : ∀ k, k < 32 → parseFieldDescriptor (TX7 k).2.2.1 = some (tyX7 k) := by decide +kernel
theorem in_X7 : ∀ w ∈ wsX70, w ∈ lw_all := lw_in wsX70 [3557, 3559, 3561, 3563, 3565, 3567, 3569, 3571, 3573, 3575, 3577, 3579, 3581, 3583, 3585, 3587, 3589, 3591, 3593, 3595, 3597, 3599, 3601, 3603, 3605, 3607, 3609, 3611, 3613, 3615, 3617, 3619] (by decide +kernel) (by decide +kernel)
def RX8 : String := "FiddleRow$Parser"
def TX8 : u_T := fun k => match k with
  | 0 => ("FiddleRow$Parser", "end", "I", true)
  | 1 => ("FiddleRow$Parser", "next", "I", false)
  | 2 => ("FiddleRow$Parser", "start", "I", false)
  | 3 => ("FiddleRow$Parser", "value", "I", false)
  | 4 => ("FiddleRow$Parser", "commands", "I", false)
  | 5 => ("FiddleRow$Parser", "word", "Ljava/lang/String;", false)
  | 6 => ("FiddleRow$Parser", "token", "LFiddleRow$Token;", false)
  | _ => ("FiddleRow$Parser", "this$0", "LFiddleRow;", true)
def tyX8 : Nat → FieldType := fun k => match k with
  | 0 => .int
  | 1 => .int
  | 2 => .int
  | 3 => .int
  | 4 => .int
  | 5 => .object "java/lang/String"
  | 6 => .object "FiddleRow$Token"
  | _ => .object "FiddleRow"
abbrev wsX80 : List Cond := u_ws RX8 TX8 8
theorem nmX8 : ∀ a, a < 8 → ∀ b, b < 8 → a ≠ b → (TX8 a).2.1 ≠ (TX8 b).2.1 := by decide +kernel
theorem tyX8_ok : ∀ k, k < 8 → parseFieldDescriptor (TX8 k).2.2.1 = some (tyX8 k) := by decide +kernel
theorem in_X8 : ∀ w ∈ wsX80, w ∈ lw_all := lw_in wsX80 [2046, 2048, 2050, 2052, 2054, 2056, 2058, 2060] (by decide +kernel) (by decide +kernel)
def RX9 : String := "FiddleRow$ParseError"
def TX9 : u_T := fun k => match k with
  | 0 => ("java/lang/Throwable", "cause", "Ljava/lang/Throwable;", false)
  | 1 => ("java/lang/Throwable", "stackTrace", "[Ljava/lang/StackTraceElement;", false)
  | 2 => ("java/lang/Throwable", "suppressedExceptions", "Ljava/util/List;", false)
  | 3 => ("java/lang/Throwable", "detailMessage", "Ljava/lang/String;", false)
  | 4 => ("java/lang/Throwable", "backtrace", "Ljava/lang/Object;", false)
  | 5 => ("java/lang/Throwable", "depth", "I", false)
  | 6 => ("FiddleRow$ParseError", "code", "I", true)
  | _ => ("FiddleRow$ParseError", "position", "I", true)
def tyX9 : Nat → FieldType := fun k => match k with
  | 0 => .object "java/lang/Throwable"
  | 1 => .array (.object "java/lang/StackTraceElement")
  | 2 => .object "java/util/List"
  | 3 => .object "java/lang/String"
  | 4 => .object "java/lang/Object"
  | 5 => .int
  | 6 => .int
  | _ => .int
abbrev wsX90 : List Cond := u_ws RX9 TX9 8
theorem nmX9 : ∀ a, a < 8 → ∀ b, b < 8 → a ≠ b → (TX9 a).2.1 ≠ (TX9 b).2.1 := by decide +kernel
theorem tyX9_ok : ∀ k, k < 8 → parseFieldDescriptor (TX9 k).2.2.1 = some (tyX9 k) := by decide +kernel
theorem in_X9 : ∀ w ∈ wsX90, w ∈ lw_all := lw_in wsX90 [2081, 2082, 2083, 2084, 2085, 2103, 2099, 2101] (by decide +kernel) (by decide +kernel)
def RX10 : String := "FiddleRow$Repeat"
def TX10 : u_T := fun k => match k with
  | 0 => ("FiddleRow$Repeat", "parts", "Ljava/util/ArrayList;", true)
  | _ => ("FiddleRow$Repeat", "times", "I", true)
def tyX10 : Nat → FieldType := fun k => match k with
  | 0 => .object "java/util/ArrayList"
  | _ => .int
abbrev wsX100 : List Cond := u_ws RX10 TX10 2
theorem nmX10 : ∀ a, a < 2 → ∀ b, b < 2 → a ≠ b → (TX10 a).2.1 ≠ (TX10 b).2.1 := by decide +kernel
theorem tyX10_ok : ∀ k, k < 2 → parseFieldDescriptor (TX10 k).2.2.1 = some (tyX10 k) := by decide +kernel
theorem in_X10 : ∀ w ∈ wsX100, w ∈ lw_all := lw_in wsX100 [2181, 2183] (by decide +kernel) (by decide +kernel)
def RX11 : String := "FiddleRow$Command"
def TX11 : u_T := fun k => match k with
  | 0 => ("FiddleRow$Command", "what", "Ljava/lang/String;", true)
  | 1 => ("FiddleRow$Command", "name", "Ljava/lang/String;", true)
  | 2 => ("FiddleRow$Command", "other", "Ljava/lang/String;", true)
  | 3 => ("FiddleRow$Command", "string", "I", true)
  | 4 => ("FiddleRow$Command", "number", "I", true)
  | _ => ("FiddleRow$Command", "this$0", "LFiddleRow;", true)
def tyX11 : Nat → FieldType := fun k => match k with
  | 0 => .object "java/lang/String"
  | 1 => .object "java/lang/String"
  | 2 => .object "java/lang/String"
  | 3 => .int
  | 4 => .int
  | _ => .object "FiddleRow"
abbrev wsX110 : List Cond := u_ws RX11 TX11 6
theorem nmX11 : ∀ a, a < 6 → ∀ b, b < 6 → a ≠ b → (TX11 a).2.1 ≠ (TX11 b).2.1 := by decide +kernel
theorem tyX11_ok : ∀ k, k < 6 → parseFieldDescriptor (TX11 k).2.2.1 = some (tyX11 k) := by decide +kernel
theorem in_X11 : ∀ w ∈ wsX110, w ∈ lw_all := lw_in wsX110 [2243, 2245, 2247, 2249, 2251, 2253] (by decide +kernel) (by decide +kernel)
def RJ2 : String := "java/util/ArrayList"
def TJ2 : u_T := fun k => match k with
  | 0 => ("java/util/AbstractList", "modCount", "I", false)
  | 1 => ("java/util/ArrayList", "elementData", "[Ljava/lang/Object;", false)
  | _ => ("java/util/ArrayList", "size", "I", false)
def tyJ2 : Nat → FieldType := fun k => match k with
  | 0 => .int
  | 1 => .array (.object "java/lang/Object")
  | _ => .int
abbrev wsJ20 : List Cond := u_ws RJ2 TJ2 3
theorem nmJ2 : ∀ a, a < 3 → ∀ b, b < 3 → a ≠ b → (TJ2 a).2.1 ≠ (TJ2 b).2.1 := by decide +kernel
theorem tyJ2_ok : ∀ k, k < 3 → parseFieldDescriptor (TJ2 k).2.2.1 = some (tyJ2 k) := by decide +kernel
theorem in_J2 : ∀ w ∈ wsJ20, w ∈ lw_all := lw_in wsJ20 [243, 239, 241] (by decide +kernel) (by decide +kernel)
def RJ5 : String := "java/util/LinkedHashMap"
def TJ5 : u_T := fun k => match k with
  | 0 => ("java/util/HashMap", "table", "[Ljava/util/HashMap$Node;", false)
  | 1 => ("java/util/HashMap", "entrySet", "Ljava/util/Set;", false)
  | 2 => ("java/util/HashMap", "size", "I", false)
  | 3 => ("java/util/HashMap", "modCount", "I", false)
  | 4 => ("java/util/HashMap", "threshold", "I", false)
  | 5 => ("java/util/HashMap", "loadFactor", "F", true)
  | 6 => ("java/util/AbstractMap", "keySet", "Ljava/util/Set;", false)
  | 7 => ("java/util/AbstractMap", "values", "Ljava/util/Collection;", false)
  | 8 => ("java/util/LinkedHashMap", "head", "Ljava/util/LinkedHashMap$Entry;", false)
  | 9 => ("java/util/LinkedHashMap", "tail", "Ljava/util/LinkedHashMap$Entry;", false)
  | 10 => ("java/util/LinkedHashMap", "accessOrder", "Z", true)
  | _ => ("java/util/LinkedHashMap", "putMode", "I", false)
def tyJ5 : Nat → FieldType := fun k => match k with
  | 0 => .array (.object "java/util/HashMap$Node")
  | 1 => .object "java/util/Set"
  | 2 => .int
  | 3 => .int
  | 4 => .int
  | 5 => .float
  | 6 => .object "java/util/Set"
  | 7 => .object "java/util/Collection"
  | 8 => .object "java/util/LinkedHashMap$Entry"
  | 9 => .object "java/util/LinkedHashMap$Entry"
  | 10 => .boolean
  | _ => .int
abbrev wsJ50 : List Cond := u_ws RJ5 TJ5 12
theorem nmJ5 : ∀ a, a < 12 → ∀ b, b < 12 → a ≠ b → (TJ5 a).2.1 ≠ (TJ5 b).2.1 := by decide +kernel
theorem tyJ5_ok : ∀ k, k < 12 → parseFieldDescriptor (TJ5 k).2.2.1 = some (tyJ5 k) := by decide +kernel
theorem in_J5 : ∀ w ∈ wsJ50, w ∈ lw_all := lw_in wsJ50 [293, 295, 297, 299, 301, 303, 305, 307, 285, 287, 289, 291] (by decide +kernel) (by decide +kernel)
def RJ8 : String := "java/util/LinkedHashSet"
def TJ8 : u_T := fun k => match k with
  | _ => ("java/util/HashSet", "map", "Ljava/util/HashMap;", false)
def tyJ8 : Nat → FieldType := fun k => match k with
  | _ => .object "java/util/HashMap"
abbrev wsJ80 : List Cond := u_ws RJ8 TJ8 1
theorem nmJ8 : ∀ a, a < 1 → ∀ b, b < 1 → a ≠ b → (TJ8 a).2.1 ≠ (TJ8 b).2.1 := by decide +kernel
theorem tyJ8_ok : ∀ k, k < 1 → parseFieldDescriptor (TJ8 k).2.2.1 = some (tyJ8 k) := by decide +kernel
theorem in_J8 : ∀ w ∈ wsJ80, w ∈ lw_all := lw_in wsJ80 [1152] (by decide +kernel) (by decide +kernel)
def RJ14 : String := "java/lang/StringBuilder"
def TJ14 : u_T := fun k => match k with
  | 0 => ("java/lang/AbstractStringBuilder", "value", "[B", false)
  | 1 => ("java/lang/AbstractStringBuilder", "coder", "B", false)
  | 2 => ("java/lang/AbstractStringBuilder", "maybeLatin1", "Z", false)
  | _ => ("java/lang/AbstractStringBuilder", "count", "I", false)
def tyJ14 : Nat → FieldType := fun k => match k with
  | 0 => .array .byte
  | 1 => .byte
  | 2 => .boolean
  | _ => .int
abbrev wsJ140 : List Cond := u_ws RJ14 TJ14 4
theorem nmJ14 : ∀ a, a < 4 → ∀ b, b < 4 → a ≠ b → (TJ14 a).2.1 ≠ (TJ14 b).2.1 := by decide +kernel
theorem tyJ14_ok : ∀ k, k < 4 → parseFieldDescriptor (TJ14 k).2.2.1 = some (tyJ14 k) := by decide +kernel
theorem in_J14 : ∀ w ∈ wsJ140, w ∈ lw_all := lw_in wsJ140 [398, 400, 402, 404] (by decide +kernel) (by decide +kernel)
def RJ15 : String := "java/lang/String"
def TJ15 : u_T := fun k => match k with
  | 0 => ("java/lang/String", "value", "[B", true)
  | 1 => ("java/lang/String", "coder", "B", true)
  | 2 => ("java/lang/String", "hash", "I", false)
  | _ => ("java/lang/String", "hashIsZero", "Z", false)
def tyJ15 : Nat → FieldType := fun k => match k with
  | 0 => .array .byte
  | 1 => .byte
  | 2 => .int
  | _ => .boolean
abbrev wsJ150 : List Cond := u_ws RJ15 TJ15 4
theorem nmJ15 : ∀ a, a < 4 → ∀ b, b < 4 → a ≠ b → (TJ15 a).2.1 ≠ (TJ15 b).2.1 := by decide +kernel
theorem tyJ15_ok : ∀ k, k < 4 → parseFieldDescriptor (TJ15 k).2.2.1 = some (tyJ15 k) := by decide +kernel
theorem in_J15 : ∀ w ∈ wsJ150, w ∈ lw_all := lw_in wsJ150 [639, 641, 643, 645] (by decide +kernel) (by decide +kernel)
def RJ23 : String := "java/lang/Integer"
def TJ23 : u_T := fun k => match k with
  | _ => ("java/lang/Integer", "value", "I", true)
def tyJ23 : Nat → FieldType := fun k => match k with
  | _ => .int
abbrev wsJ230 : List Cond := u_ws RJ23 TJ23 1
theorem nmJ23 : ∀ a, a < 1 → ∀ b, b < 1 → a ≠ b → (TJ23 a).2.1 ≠ (TJ23 b).2.1 := by decide +kernel
theorem tyJ23_ok : ∀ k, k < 1 → parseFieldDescriptor (TJ23 k).2.2.1 = some (tyJ23 k) := by decide +kernel
theorem in_J23 : ∀ w ∈ wsJ230, w ∈ lw_all := lw_in wsJ230 [2956] (by decide +kernel) (by decide +kernel)
def RJ32 : String := "java/util/LinkedHashMap$Entry"
def TJ32 : u_T := fun k => match k with
  | 0 => ("java/util/HashMap$Node", "hash", "I", true)
  | 1 => ("java/util/HashMap$Node", "key", "Ljava/lang/Object;", true)
  | 2 => ("java/util/HashMap$Node", "value", "Ljava/lang/Object;", false)
  | 3 => ("java/util/HashMap$Node", "next", "Ljava/util/HashMap$Node;", false)
  | 4 => ("java/util/LinkedHashMap$Entry", "before", "Ljava/util/LinkedHashMap$Entry;", false)
  | _ => ("java/util/LinkedHashMap$Entry", "after", "Ljava/util/LinkedHashMap$Entry;", false)
def tyJ32 : Nat → FieldType := fun k => match k with
  | 0 => .int
  | 1 => .object "java/lang/Object"
  | 2 => .object "java/lang/Object"
  | 3 => .object "java/util/HashMap$Node"
  | 4 => .object "java/util/LinkedHashMap$Entry"
  | _ => .object "java/util/LinkedHashMap$Entry"
abbrev wsJ320 : List Cond := u_ws RJ32 TJ32 6
theorem nmJ32 : ∀ a, a < 6 → ∀ b, b < 6 → a ≠ b → (TJ32 a).2.1 ≠ (TJ32 b).2.1 := by decide +kernel
theorem tyJ32_ok : ∀ k, k < 6 → parseFieldDescriptor (TJ32 k).2.2.1 = some (tyJ32 k) := by decide +kernel
theorem in_J32 : ∀ w ∈ wsJ320, w ∈ lw_all := lw_in wsJ320 [1530, 1532, 1534, 1536, 1526, 1528] (by decide +kernel) (by decide +kernel)
def RJ36 : String := "java/util/ArrayDeque"
def TJ36 : u_T := fun k => match k with
  | 0 => ("java/util/ArrayDeque", "elements", "[Ljava/lang/Object;", false)
  | 1 => ("java/util/ArrayDeque", "head", "I", false)
  | _ => ("java/util/ArrayDeque", "tail", "I", false)
def tyJ36 : Nat → FieldType := fun k => match k with
  | 0 => .array (.object "java/lang/Object")
  | 1 => .int
  | _ => .int
abbrev wsJ360 : List Cond := u_ws RJ36 TJ36 3
theorem nmJ36 : ∀ a, a < 3 → ∀ b, b < 3 → a ≠ b → (TJ36 a).2.1 ≠ (TJ36 b).2.1 := by decide +kernel
theorem tyJ36_ok : ∀ k, k < 3 → parseFieldDescriptor (TJ36 k).2.2.1 = some (tyJ36 k) := by decide +kernel
theorem in_J36 : ∀ w ∈ wsJ360, w ∈ lw_all := lw_in wsJ360 [1938, 1940, 1942] (by decide +kernel) (by decide +kernel)
def RJ38 : String := "java/util/ArrayList$Itr"
def TJ38 : u_T := fun k => match k with
  | 0 => ("java/util/ArrayList$Itr", "cursor", "I", false)
  | 1 => ("java/util/ArrayList$Itr", "lastRet", "I", false)
  | 2 => ("java/util/ArrayList$Itr", "expectedModCount", "I", false)
  | _ => ("java/util/ArrayList$Itr", "this$0", "Ljava/util/ArrayList;", true)
def tyJ38 : Nat → FieldType := fun k => match k with
  | 0 => .int
  | 1 => .int
  | 2 => .int
  | _ => .object "java/util/ArrayList"
abbrev wsJ380 : List Cond := u_ws RJ38 TJ38 4
theorem nmJ38 : ∀ a, a < 4 → ∀ b, b < 4 → a ≠ b → (TJ38 a).2.1 ≠ (TJ38 b).2.1 := by decide +kernel
theorem tyJ38_ok : ∀ k, k < 4 → parseFieldDescriptor (TJ38 k).2.2.1 = some (tyJ38 k) := by decide +kernel
theorem in_J38 : ∀ w ∈ wsJ380, w ∈ lw_all := lw_in wsJ380 [2283, 2285, 2287, 2289] (by decide +kernel) (by decide +kernel)
def RJ39 : String := "java/util/LinkedHashMap$LinkedEntrySet"
def TJ39 : u_T := fun k => match k with
  | 0 => ("java/util/LinkedHashMap$LinkedEntrySet", "reversed", "Z", true)
  | _ => ("java/util/LinkedHashMap$LinkedEntrySet", "this$0", "Ljava/util/LinkedHashMap;", true)
def tyJ39 : Nat → FieldType := fun k => match k with
  | 0 => .boolean
  | _ => .object "java/util/LinkedHashMap"
abbrev wsJ390 : List Cond := u_ws RJ39 TJ39 2
theorem nmJ39 : ∀ a, a < 2 → ∀ b, b < 2 → a ≠ b → (TJ39 a).2.1 ≠ (TJ39 b).2.1 := by decide +kernel
theorem tyJ39_ok : ∀ k, k < 2 → parseFieldDescriptor (TJ39 k).2.2.1 = some (tyJ39 k) := by decide +kernel
theorem in_J39 : ∀ w ∈ wsJ390, w ∈ lw_all := lw_in wsJ390 [2420, 2422] (by decide +kernel) (by decide +kernel)
def RJ43 : String := "java/util/LinkedHashMap$LinkedEntryIterator"
def TJ43 : u_T := fun k => match k with
  | 0 => ("java/util/LinkedHashMap$LinkedHashIterator", "next", "Ljava/util/LinkedHashMap$Entry;", false)
  | 1 => ("java/util/LinkedHashMap$LinkedHashIterator", "current", "Ljava/util/LinkedHashMap$Entry;", false)
  | 2 => ("java/util/LinkedHashMap$LinkedHashIterator", "expectedModCount", "I", false)
  | 3 => ("java/util/LinkedHashMap$LinkedHashIterator", "reversed", "Z", false)
  | _ => ("java/util/LinkedHashMap$LinkedHashIterator", "this$0", "Ljava/util/LinkedHashMap;", true)
def tyJ43 : Nat → FieldType := fun k => match k with
  | 0 => .object "java/util/LinkedHashMap$Entry"
  | 1 => .object "java/util/LinkedHashMap$Entry"
  | 2 => .int
  | 3 => .boolean
  | _ => .object "java/util/LinkedHashMap"
abbrev wsJ430 : List Cond := u_ws RJ43 TJ43 5
theorem nmJ43 : ∀ a, a < 5 → ∀ b, b < 5 → a ≠ b → (TJ43 a).2.1 ≠ (TJ43 b).2.1 := by decide +kernel
theorem tyJ43_ok : ∀ k, k < 5 → parseFieldDescriptor (TJ43 k).2.2.1 = some (tyJ43 k) := by decide +kernel
theorem in_J43 : ∀ w ∈ wsJ430, w ∈ lw_all := lw_in wsJ430 [2481, 2483, 2485, 2487, 2489] (by decide +kernel) (by decide +kernel)
def RJ44 : String := "java/util/LinkedHashMap$LinkedKeyIterator"
def TJ44 : u_T := fun k => match k with
  | 0 => ("java/util/LinkedHashMap$LinkedHashIterator", "next", "Ljava/util/LinkedHashMap$Entry;", false)
  | 1 => ("java/util/LinkedHashMap$LinkedHashIterator", "current", "Ljava/util/LinkedHashMap$Entry;", false)
  | 2 => ("java/util/LinkedHashMap$LinkedHashIterator", "expectedModCount", "I", false)
  | 3 => ("java/util/LinkedHashMap$LinkedHashIterator", "reversed", "Z", false)
  | _ => ("java/util/LinkedHashMap$LinkedHashIterator", "this$0", "Ljava/util/LinkedHashMap;", true)
def tyJ44 : Nat → FieldType := fun k => match k with
  | 0 => .object "java/util/LinkedHashMap$Entry"
  | 1 => .object "java/util/LinkedHashMap$Entry"
  | 2 => .int
  | 3 => .boolean
  | _ => .object "java/util/LinkedHashMap"
abbrev wsJ440 : List Cond := u_ws RJ44 TJ44 5
theorem nmJ44 : ∀ a, a < 5 → ∀ b, b < 5 → a ≠ b → (TJ44 a).2.1 ≠ (TJ44 b).2.1 := by decide +kernel
theorem tyJ44_ok : ∀ k, k < 5 → parseFieldDescriptor (TJ44 k).2.2.1 = some (tyJ44 k) := by decide +kernel
theorem in_J44 : ∀ w ∈ wsJ440, w ∈ lw_all := lw_in wsJ440 [2504, 2505, 2506, 2507, 2508] (by decide +kernel) (by decide +kernel)
def RJ46 : String := "java/util/LinkedHashMap$LinkedKeySet"
def TJ46 : u_T := fun k => match k with
  | 0 => ("java/util/LinkedHashMap$LinkedKeySet", "reversed", "Z", true)
  | _ => ("java/util/LinkedHashMap$LinkedKeySet", "this$0", "Ljava/util/LinkedHashMap;", true)
def tyJ46 : Nat → FieldType := fun k => match k with
  | 0 => .boolean
  | _ => .object "java/util/LinkedHashMap"
abbrev wsJ460 : List Cond := u_ws RJ46 TJ46 2
theorem nmJ46 : ∀ a, a < 2 → ∀ b, b < 2 → a ≠ b → (TJ46 a).2.1 ≠ (TJ46 b).2.1 := by decide +kernel
theorem tyJ46_ok : ∀ k, k < 2 → parseFieldDescriptor (TJ46 k).2.2.1 = some (tyJ46 k) := by decide +kernel
theorem in_J46 : ∀ w ∈ wsJ460, w ∈ lw_all := lw_in wsJ460 [2534, 2536] (by decide +kernel) (by decide +kernel)
def RJ49 : String := "java/util/LinkedHashMap$LinkedValues"
def TJ49 : u_T := fun k => match k with
  | 0 => ("java/util/LinkedHashMap$LinkedValues", "reversed", "Z", true)
  | _ => ("java/util/LinkedHashMap$LinkedValues", "this$0", "Ljava/util/LinkedHashMap;", true)
def tyJ49 : Nat → FieldType := fun k => match k with
  | 0 => .boolean
  | _ => .object "java/util/LinkedHashMap"
abbrev wsJ490 : List Cond := u_ws RJ49 TJ49 2
theorem nmJ49 : ∀ a, a < 2 → ∀ b, b < 2 → a ≠ b → (TJ49 a).2.1 ≠ (TJ49 b).2.1 := by decide +kernel
theorem tyJ49_ok : ∀ k, k < 2 → parseFieldDescriptor (TJ49 k).2.2.1 = some (tyJ49 k) := by decide +kernel
theorem in_J49 : ∀ w ∈ wsJ490, w ∈ lw_all := lw_in wsJ490 [2995, 2997] (by decide +kernel) (by decide +kernel)
def RJ51 : String := "java/util/LinkedHashMap$LinkedValueIterator"
def TJ51 : u_T := fun k => match k with
  | 0 => ("java/util/LinkedHashMap$LinkedHashIterator", "next", "Ljava/util/LinkedHashMap$Entry;", false)
  | 1 => ("java/util/LinkedHashMap$LinkedHashIterator", "current", "Ljava/util/LinkedHashMap$Entry;", false)
  | 2 => ("java/util/LinkedHashMap$LinkedHashIterator", "expectedModCount", "I", false)
  | 3 => ("java/util/LinkedHashMap$LinkedHashIterator", "reversed", "Z", false)
  | _ => ("java/util/LinkedHashMap$LinkedHashIterator", "this$0", "Ljava/util/LinkedHashMap;", true)
def tyJ51 : Nat → FieldType := fun k => match k with
  | 0 => .object "java/util/LinkedHashMap$Entry"
  | 1 => .object "java/util/LinkedHashMap$Entry"
  | 2 => .int
  | 3 => .boolean
  | _ => .object "java/util/LinkedHashMap"
abbrev wsJ510 : List Cond := u_ws RJ51 TJ51 5
theorem nmJ51 : ∀ a, a < 5 → ∀ b, b < 5 → a ≠ b → (TJ51 a).2.1 ≠ (TJ51 b).2.1 := by decide +kernel
theorem tyJ51_ok : ∀ k, k < 5 → parseFieldDescriptor (TJ51 k).2.2.1 = some (tyJ51 k) := by decide +kernel
theorem in_J51 : ∀ w ∈ wsJ510, w ∈ lw_all := lw_in wsJ510 [3056, 3057, 3058, 3059, 3060] (by decide +kernel) (by decide +kernel)
def RJ47 : String := "java/lang/IndexOutOfBoundsException"
def TJ47 : u_T := fun k => match k with
  | 0 => ("java/lang/Throwable", "cause", "Ljava/lang/Throwable;", false)
  | 1 => ("java/lang/Throwable", "stackTrace", "[Ljava/lang/StackTraceElement;", false)
  | 2 => ("java/lang/Throwable", "suppressedExceptions", "Ljava/util/List;", false)
  | 3 => ("java/lang/Throwable", "detailMessage", "Ljava/lang/String;", false)
  | 4 => ("java/lang/Throwable", "backtrace", "Ljava/lang/Object;", false)
  | _ => ("java/lang/Throwable", "depth", "I", false)
def tyJ47 : Nat → FieldType := fun k => match k with
  | 0 => .object "java/lang/Throwable"
  | 1 => .array (.object "java/lang/StackTraceElement")
  | 2 => .object "java/util/List"
  | 3 => .object "java/lang/String"
  | 4 => .object "java/lang/Object"
  | _ => .int
abbrev wsJ470 : List Cond := u_ws RJ47 TJ47 6
theorem nmJ47 : ∀ a, a < 6 → ∀ b, b < 6 → a ≠ b → (TJ47 a).2.1 ≠ (TJ47 b).2.1 := by decide +kernel
theorem tyJ47_ok : ∀ k, k < 6 → parseFieldDescriptor (TJ47 k).2.2.1 = some (tyJ47 k) := by decide +kernel
theorem in_J47 : ∀ w ∈ wsJ470, w ∈ lw_all := lw_in wsJ470 [2727, 2728, 2729, 2730, 2731, 2742] (by decide +kernel) (by decide +kernel)
def RJ12 : String := "java/lang/IllegalArgumentException"
def TJ12 : u_T := fun k => match k with
  | 0 => ("java/lang/Throwable", "cause", "Ljava/lang/Throwable;", false)
  | 1 => ("java/lang/Throwable", "stackTrace", "[Ljava/lang/StackTraceElement;", false)
  | 2 => ("java/lang/Throwable", "suppressedExceptions", "Ljava/util/List;", false)
  | 3 => ("java/lang/Throwable", "detailMessage", "Ljava/lang/String;", false)
  | 4 => ("java/lang/Throwable", "backtrace", "Ljava/lang/Object;", false)
  | _ => ("java/lang/Throwable", "depth", "I", false)
def tyJ12 : Nat → FieldType := fun k => match k with
  | 0 => .object "java/lang/Throwable"
  | 1 => .array (.object "java/lang/StackTraceElement")
  | 2 => .object "java/util/List"
  | 3 => .object "java/lang/String"
  | 4 => .object "java/lang/Object"
  | _ => .int
abbrev wsJ120 : List Cond := u_ws RJ12 TJ12 6
theorem nmJ12 : ∀ a, a < 6 → ∀ b, b < 6 → a ≠ b → (TJ12 a).2.1 ≠ (TJ12 b).2.1 := by decide +kernel
theorem tyJ12_ok : ∀ k, k < 6 → parseFieldDescriptor (TJ12 k).2.2.1 = some (tyJ12 k) := by decide +kernel
theorem in_J12 : ∀ w ∈ wsJ120, w ∈ lw_all := lw_in wsJ120 [341, 343, 345, 347, 349, 618] (by decide +kernel) (by decide +kernel)
def RJ29 : String := "java/lang/IllegalStateException"
def TJ29 : u_T := fun k => match k with
  | 0 => ("java/lang/Throwable", "cause", "Ljava/lang/Throwable;", false)
  | 1 => ("java/lang/Throwable", "stackTrace", "[Ljava/lang/StackTraceElement;", false)
  | 2 => ("java/lang/Throwable", "suppressedExceptions", "Ljava/util/List;", false)
  | 3 => ("java/lang/Throwable", "detailMessage", "Ljava/lang/String;", false)
  | 4 => ("java/lang/Throwable", "backtrace", "Ljava/lang/Object;", false)
  | _ => ("java/lang/Throwable", "depth", "I", false)
def tyJ29 : Nat → FieldType := fun k => match k with
  | 0 => .object "java/lang/Throwable"
  | 1 => .array (.object "java/lang/StackTraceElement")
  | 2 => .object "java/util/List"
  | 3 => .object "java/lang/String"
  | 4 => .object "java/lang/Object"
  | _ => .int
abbrev wsJ290 : List Cond := u_ws RJ29 TJ29 6
theorem nmJ29 : ∀ a, a < 6 → ∀ b, b < 6 → a ≠ b → (TJ29 a).2.1 ≠ (TJ29 b).2.1 := by decide +kernel
theorem tyJ29_ok : ∀ k, k < 6 → parseFieldDescriptor (TJ29 k).2.2.1 = some (tyJ29 k) := by decide +kernel
theorem in_J29 : ∀ w ∈ wsJ290, w ∈ lw_all := lw_in wsJ290 [1116, 1117, 1118, 1119, 1120, 1139] (by decide +kernel) (by decide +kernel)
def xnoT : u_T := fun _ => ("", "", "", false)
def xcl : List vw_C := [(RX1, TX1, 7), (RX2, TX2, 3), (RX3, TX3, 18), (RX4, TX4, 7), (RX5, TX5, 2), (RX6, TX6, 3), (RX7, TX7, 32), (RX8, TX8, 8), (RX9, TX9, 8), (RX10, TX10, 2), (RX11, TX11, 6), (RJ2, TJ2, 3), (RJ5, TJ5, 12), (RJ8, TJ8, 1), (RJ14, TJ14, 4), (RJ15, TJ15, 4), (RJ23, TJ23, 1), (RJ32, TJ32, 6), (RJ36, TJ36, 3), (RJ38, TJ38, 4), (RJ39, TJ39, 2), (RJ43, TJ43, 5), (RJ44, TJ44, 5), (RJ46, TJ46, 2), (RJ49, TJ49, 2), (RJ51, TJ51, 5), (RJ47, TJ47, 0), (RJ12, TJ12, 0), (RJ29, TJ29, 0), ("FiddleRow$Token", xnoT, 0), ("java/lang/Object", xnoT, 0)]
def xifs : List (String × MethodName × MethodName) := [("FiddleRow$Command", ⟨"FiddleRow$Part", "execute", "(LFiddleRow$Hall;)Z"⟩, ⟨"FiddleRow$Command", "execute", "(LFiddleRow$Hall;)Z"⟩), ("FiddleRow$Repeat", ⟨"FiddleRow$Part", "execute", "(LFiddleRow$Hall;)Z"⟩, ⟨"FiddleRow$Repeat", "execute", "(LFiddleRow$Hall;)Z"⟩), ("FiddleRow$Token", ⟨"java/lang/Comparable", "compareTo", "(Ljava/lang/Object;)I"⟩, ⟨"java/lang/Enum", "compareTo", "(Ljava/lang/Object;)I"⟩), ("java/lang/Integer", ⟨"java/lang/Comparable", "compareTo", "(Ljava/lang/Object;)I"⟩, ⟨"java/lang/Integer", "compareTo", "(Ljava/lang/Object;)I"⟩), ("java/lang/String", ⟨"java/lang/CharSequence", "charAt", "(I)C"⟩, ⟨"java/lang/String", "charAt", "(I)C"⟩), ("java/lang/String", ⟨"java/lang/CharSequence", "length", "()I"⟩, ⟨"java/lang/String", "length", "()I"⟩), ("java/lang/String", ⟨"java/lang/Comparable", "compareTo", "(Ljava/lang/Object;)I"⟩, ⟨"java/lang/String", "compareTo", "(Ljava/lang/Object;)I"⟩), ("java/lang/StringBuilder", ⟨"java/lang/Appendable", "append", "(C)Ljava/lang/Appendable;"⟩, ⟨"java/lang/StringBuilder", "append", "(C)Ljava/lang/Appendable;"⟩), ("java/lang/StringBuilder", ⟨"java/lang/Appendable", "append", "(Ljava/lang/CharSequence;)Ljava/lang/Appendable;"⟩, ⟨"java/lang/StringBuilder", "append", "(Ljava/lang/CharSequence;)Ljava/lang/Appendable;"⟩), ("java/lang/StringBuilder", ⟨"java/lang/CharSequence", "charAt", "(I)C"⟩, ⟨"java/lang/StringBuilder", "charAt", "(I)C"⟩), ("java/lang/StringBuilder", ⟨"java/lang/CharSequence", "length", "()I"⟩, ⟨"java/lang/StringBuilder", "length", "()I"⟩), ("java/lang/StringBuilder", ⟨"java/lang/Comparable", "compareTo", "(Ljava/lang/Object;)I"⟩, ⟨"java/lang/StringBuilder", "compareTo", "(Ljava/lang/Object;)I"⟩), ("java/lang/System$2", ⟨"jdk/internal/access/JavaLangAccess", "getUTF16Char", "([BI)C"⟩, ⟨"java/lang/System$2", "getUTF16Char", "([BI)C"⟩), ("java/util/ArrayDeque", ⟨"java/util/Collection", "iterator", "()Ljava/util/Iterator;"⟩, ⟨"java/util/ArrayDeque", "iterator", "()Ljava/util/Iterator;"⟩), ("java/util/ArrayDeque$DeqIterator", ⟨"java/util/Iterator", "hasNext", "()Z"⟩, ⟨"java/util/ArrayDeque$DeqIterator", "hasNext", "()Z"⟩), ("java/util/ArrayDeque$DeqIterator", ⟨"java/util/Iterator", "next", "()Ljava/lang/Object;"⟩, ⟨"java/util/ArrayDeque$DeqIterator", "next", "()Ljava/lang/Object;"⟩), ("java/util/ArrayList", ⟨"java/util/Collection", "iterator", "()Ljava/util/Iterator;"⟩, ⟨"java/util/ArrayList", "iterator", "()Ljava/util/Iterator;"⟩), ("java/util/ArrayList$Itr", ⟨"java/util/Iterator", "hasNext", "()Z"⟩, ⟨"java/util/ArrayList$Itr", "hasNext", "()Z"⟩), ("java/util/ArrayList$Itr", ⟨"java/util/Iterator", "next", "()Ljava/lang/Object;"⟩, ⟨"java/util/ArrayList$Itr", "next", "()Ljava/lang/Object;"⟩), ("java/util/HashMap$KeyIterator", ⟨"java/util/Iterator", "hasNext", "()Z"⟩, ⟨"java/util/HashMap$HashIterator", "hasNext", "()Z"⟩), ("java/util/HashMap$KeyIterator", ⟨"java/util/Iterator", "next", "()Ljava/lang/Object;"⟩, ⟨"java/util/HashMap$KeyIterator", "next", "()Ljava/lang/Object;"⟩), ("java/util/HashMap$KeySet", ⟨"java/util/Collection", "iterator", "()Ljava/util/Iterator;"⟩, ⟨"java/util/HashMap$KeySet", "iterator", "()Ljava/util/Iterator;"⟩), ("java/util/HashMap$KeySet", ⟨"java/util/Set", "iterator", "()Ljava/util/Iterator;"⟩, ⟨"java/util/HashMap$KeySet", "iterator", "()Ljava/util/Iterator;"⟩), ("java/util/HashMap$Node", ⟨"java/util/Map$Entry", "getKey", "()Ljava/lang/Object;"⟩, ⟨"java/util/HashMap$Node", "getKey", "()Ljava/lang/Object;"⟩), ("java/util/HashMap$Node", ⟨"java/util/Map$Entry", "getValue", "()Ljava/lang/Object;"⟩, ⟨"java/util/HashMap$Node", "getValue", "()Ljava/lang/Object;"⟩), ("java/util/HashMap$TreeNode", ⟨"java/util/Map$Entry", "getKey", "()Ljava/lang/Object;"⟩, ⟨"java/util/HashMap$Node", "getKey", "()Ljava/lang/Object;"⟩), ("java/util/HashMap$TreeNode", ⟨"java/util/Map$Entry", "getValue", "()Ljava/lang/Object;"⟩, ⟨"java/util/HashMap$Node", "getValue", "()Ljava/lang/Object;"⟩), ("java/util/LinkedHashMap$Entry", ⟨"java/util/Map$Entry", "getKey", "()Ljava/lang/Object;"⟩, ⟨"java/util/HashMap$Node", "getKey", "()Ljava/lang/Object;"⟩), ("java/util/LinkedHashMap$Entry", ⟨"java/util/Map$Entry", "getValue", "()Ljava/lang/Object;"⟩, ⟨"java/util/HashMap$Node", "getValue", "()Ljava/lang/Object;"⟩), ("java/util/LinkedHashMap$LinkedEntryIterator", ⟨"java/util/Iterator", "hasNext", "()Z"⟩, ⟨"java/util/LinkedHashMap$LinkedHashIterator", "hasNext", "()Z"⟩), ("java/util/LinkedHashMap$LinkedEntryIterator", ⟨"java/util/Iterator", "next", "()Ljava/lang/Object;"⟩, ⟨"java/util/LinkedHashMap$LinkedEntryIterator", "next", "()Ljava/lang/Object;"⟩), ("java/util/LinkedHashMap$LinkedEntrySet", ⟨"java/util/Collection", "iterator", "()Ljava/util/Iterator;"⟩, ⟨"java/util/LinkedHashMap$LinkedEntrySet", "iterator", "()Ljava/util/Iterator;"⟩), ("java/util/LinkedHashMap$LinkedEntrySet", ⟨"java/util/Set", "iterator", "()Ljava/util/Iterator;"⟩, ⟨"java/util/LinkedHashMap$LinkedEntrySet", "iterator", "()Ljava/util/Iterator;"⟩), ("java/util/LinkedHashMap$LinkedKeyIterator", ⟨"java/util/Iterator", "hasNext", "()Z"⟩, ⟨"java/util/LinkedHashMap$LinkedHashIterator", "hasNext", "()Z"⟩), ("java/util/LinkedHashMap$LinkedKeyIterator", ⟨"java/util/Iterator", "next", "()Ljava/lang/Object;"⟩, ⟨"java/util/LinkedHashMap$LinkedKeyIterator", "next", "()Ljava/lang/Object;"⟩), ("java/util/LinkedHashMap$LinkedKeySet", ⟨"java/util/Collection", "iterator", "()Ljava/util/Iterator;"⟩, ⟨"java/util/LinkedHashMap$LinkedKeySet", "iterator", "()Ljava/util/Iterator;"⟩), ("java/util/LinkedHashMap$LinkedKeySet", ⟨"java/util/Set", "iterator", "()Ljava/util/Iterator;"⟩, ⟨"java/util/LinkedHashMap$LinkedKeySet", "iterator", "()Ljava/util/Iterator;"⟩), ("java/util/LinkedHashMap$LinkedValueIterator", ⟨"java/util/Iterator", "hasNext", "()Z"⟩, ⟨"java/util/LinkedHashMap$LinkedHashIterator", "hasNext", "()Z"⟩), ("java/util/LinkedHashMap$LinkedValueIterator", ⟨"java/util/Iterator", "next", "()Ljava/lang/Object;"⟩, ⟨"java/util/LinkedHashMap$LinkedValueIterator", "next", "()Ljava/lang/Object;"⟩), ("java/util/LinkedHashMap$LinkedValues", ⟨"java/util/Collection", "iterator", "()Ljava/util/Iterator;"⟩, ⟨"java/util/LinkedHashMap$LinkedValues", "iterator", "()Ljava/util/Iterator;"⟩), ("java/util/LinkedHashSet", ⟨"java/util/Collection", "iterator", "()Ljava/util/Iterator;"⟩, ⟨"java/util/HashSet", "iterator", "()Ljava/util/Iterator;"⟩), ("java/util/LinkedHashSet", ⟨"java/util/Set", "iterator", "()Ljava/util/Iterator;"⟩, ⟨"java/util/HashSet", "iterator", "()Ljava/util/Iterator;"⟩)]
theorem xifs_ok : ∀ q ∈ xifs, q.2.1.cls ≠ "java/lang/invoke/MethodHandle" ∧ q.2.1.cls ≠ "java/lang/invoke/VarHandle" := by decide +kernel
def xncs : List (String × String) := [("java/lang/IndexOutOfBoundsException", "java/lang/IllegalArgumentException"), ("java/lang/IndexOutOfBoundsException", "java/lang/IllegalStateException"), ("java/lang/IllegalArgumentException", "java/lang/IndexOutOfBoundsException"), ("java/lang/IllegalArgumentException", "java/lang/IllegalStateException"), ("java/lang/IllegalStateException", "java/lang/IndexOutOfBoundsException"), ("java/lang/IllegalStateException", "java/lang/IllegalArgumentException"), ("java/util/LinkedHashMap$Entry", "java/util/HashMap$TreeNode")]
