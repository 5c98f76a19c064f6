set_option maxRecDepth 100000
def RX1 : String := "LotBeliefs"
def TX1 : u_T := fun k => match k with
  | 0 => ("LotBeliefs", "jar", "LLotBeliefs$Jar;", false)
  | 1 => ("LotBeliefs", "tongue", "LLotBeliefs$Tongue;", false)
  | 2 => ("LotBeliefs", "facts", "[I", true)
  | 3 => ("LotBeliefs", "question", "J", false)
  | 4 => ("LotBeliefs", "lefts", "[J", true)
  | 5 => ("LotBeliefs", "s", "LLotBeliefs$State;", true)
  | 6 => ("LotBeliefs", "taped", "I", false)
  | 7 => ("LotBeliefs", "faultAt", "I", false)
  | 8 => ("LotBeliefs", "imageMany", "I", false)
  | 9 => ("LotBeliefs", "tape", "[B", true)
  | 10 => ("LotBeliefs", "images", "[LLotBeliefs$State;", true)
  | 11 => ("LotBeliefs", "refused", "[I", true)
  | 12 => ("LotBeliefs", "school", "LLotBeliefs$School;", true)
  | 13 => ("LotBeliefs", "second", "LLotBeliefs$School;", true)
  | 14 => ("LotBeliefs", "digits", "[I", true)
  | 15 => ("LotBeliefs", "tried", "[I", true)
  | 16 => ("LotBeliefs", "ended", "[Z", true)
  | 17 => ("LotBeliefs", "heldBy", "[I", true)
  | 18 => ("LotBeliefs", "best", "[I", true)
  | 19 => ("LotBeliefs", "unlike", "I", false)
  | 20 => ("LotBeliefs", "always", "I", false)
  | 21 => ("LotBeliefs", "ever", "I", false)
  | 22 => ("LotBeliefs", "mostTrue", "I", false)
  | 23 => ("LotBeliefs", "allTrue", "I", false)
  | 24 => ("LotBeliefs", "worlds", "[J", true)
  | 25 => ("LotBeliefs", "ofFirst", "[J", true)
  | 26 => ("LotBeliefs", "ofSecond", "[J", true)
  | 27 => ("LotBeliefs", "mostHurt", "I", false)
  | 28 => ("LotBeliefs", "hurtOrder", "J", false)
  | _ => ("LotBeliefs", "length", "[I", true)
def tyX1 : Nat → FieldType := fun k => match k with
  | 0 => .object "LotBeliefs$Jar"
  | 1 => .object "LotBeliefs$Tongue"
  | 2 => .array .int
  | 3 => .long
  | 4 => .array .long
  | 5 => .object "LotBeliefs$State"
  | 6 => .int
  | 7 => .int
  | 8 => .int
  | 9 => .array .byte
  | 10 => .array (.object "LotBeliefs$State")
  | 11 => .array .int
  | 12 => .object "LotBeliefs$School"
  | 13 => .object "LotBeliefs$School"
  | 14 => .array .int
  | 15 => .array .int
  | 16 => .array .boolean
  | 17 => .array .int
  | 18 => .array .int
  | 19 => .int
  | 20 => .int
  | 21 => .int
  | 22 => .int
  | 23 => .int
  | 24 => .array .long
  | 25 => .array .long
  | 26 => .array .long
  | 27 => .int
  | 28 => .long
  | _ => .array .int
abbrev wsX10 : List Cond := u_ws RX1 TX1 30
set_option maxRecDepth 100000 in
theorem nmX1 : ∀ a, a < 30 → ∀ b, b < 30 → a ≠ b → (TX1 a).2.1 ≠ (TX1 b).2.1 := by decide +kernel
set_option maxRecDepth 100000 in
theorem tyX1_ok : ∀ k, k < 30 → parseFieldDescriptor (TX1 k).2.2.1 = some (tyX1 k) := by decide +kernel
theorem in_X1 : ∀ w ∈ wsX10, w ∈ lw_all := lw_in wsX10 [728, 730, 732, 734, 736, 738, 740, 742, 744, 746, 748, 750, 752, 754, 756, 758, 760, 762, 764, 766, 768, 770, 772, 774, 776, 778, 780, 782, 784, 786] (by decide +kernel) (by decide +kernel)
def RX2 : String := "LotBeliefs$Jar"
def TX2 : u_T := fun k => match k with
  | 0 => ("LotBeliefs$Jar", "seeings", "Ljava/util/ArrayList;", true)
  | 1 => ("LotBeliefs$Jar", "models", "[J", true)
  | 2 => ("LotBeliefs$Jar", "atoms", "I", false)
  | 3 => ("LotBeliefs$Jar", "slips", "I", false)
  | 4 => ("LotBeliefs$Jar", "salts", "I", false)
  | 5 => ("LotBeliefs$Jar", "world", "I", false)
  | 6 => ("LotBeliefs$Jar", "law", "I", false)
  | _ => ("LotBeliefs$Jar", "clauses", "I", false)
def tyX2 : Nat → FieldType := fun k => match k with
  | 0 => .object "java/util/ArrayList"
  | 1 => .array .long
  | 2 => .int
  | 3 => .int
  | 4 => .int
  | 5 => .int
  | 6 => .int
  | _ => .int
abbrev wsX20 : List Cond := u_ws RX2 TX2 8
theorem nmX2 : ∀ a, a < 8 → ∀ b, b < 8 → a ≠ b → (TX2 a).2.1 ≠ (TX2 b).2.1 := by decide +kernel
theorem tyX2_ok : ∀ k, k < 8 → parseFieldDescriptor (TX2 k).2.2.1 = some (tyX2 k) := by decide +kernel
theorem in_X2 : ∀ w ∈ wsX20, w ∈ lw_all := lw_in wsX20 [545, 547, 549, 551, 553, 555, 557, 559] (by decide +kernel) (by decide +kernel)
def RX3 : String := "LotBeliefs$Tongue"
def TX3 : u_T := fun k => match k with
  | 0 => ("LotBeliefs$Tongue", "grounds", "Ljava/util/ArrayList;", true)
  | _ => ("LotBeliefs$Tongue", "who", "[I", true)
def tyX3 : Nat → FieldType := fun k => match k with
  | 0 => .object "java/util/ArrayList"
  | _ => .array .int
abbrev wsX30 : List Cond := u_ws RX3 TX3 2
theorem nmX3 : ∀ a, a < 2 → ∀ b, b < 2 → a ≠ b → (TX3 a).2.1 ≠ (TX3 b).2.1 := by decide +kernel
theorem tyX3_ok : ∀ k, k < 2 → parseFieldDescriptor (TX3 k).2.2.1 = some (tyX3 k) := by decide +kernel
theorem in_X3 : ∀ w ∈ wsX30, w ∈ lw_all := lw_in wsX30 [576, 578] (by decide +kernel) (by decide +kernel)
def RX4 : String := "LotBeliefs$State"
def TX4 : u_T := fun k => match k with
  | 0 => ("LotBeliefs$State", "order", "[I", true)
  | 1 => ("LotBeliefs$State", "law", "I", false)
  | _ => ("LotBeliefs$State", "world", "I", false)
def tyX4 : Nat → FieldType := fun k => match k with
  | 0 => .array .int
  | 1 => .int
  | _ => .int
abbrev wsX40 : List Cond := u_ws RX4 TX4 3
theorem nmX4 : ∀ a, a < 3 → ∀ b, b < 3 → a ≠ b → (TX4 a).2.1 ≠ (TX4 b).2.1 := by decide +kernel
theorem tyX4_ok : ∀ k, k < 3 → parseFieldDescriptor (TX4 k).2.2.1 = some (tyX4 k) := by decide +kernel
theorem in_X4 : ∀ w ∈ wsX40, w ∈ lw_all := lw_in wsX40 [595, 597, 599] (by decide +kernel) (by decide +kernel)
def RX5 : String := "LotBeliefs$School"
def TX5 : u_T := fun k => match k with
  | 0 => ("LotBeliefs$School", "chairs", "[I", true)
  | 1 => ("LotBeliefs$School", "drawn", "[I", true)
  | 2 => ("LotBeliefs$School", "fell", "[I", true)
  | 3 => ("LotBeliefs$School", "by", "[I", true)
  | 4 => ("LotBeliefs$School", "weeks", "[I", true)
  | 5 => ("LotBeliefs$School", "hurts", "[I", true)
  | 6 => ("LotBeliefs$School", "heldIn", "[I", true)
  | 7 => ("LotBeliefs$School", "many", "I", false)
  | 8 => ("LotBeliefs$School", "falls", "I", false)
  | 9 => ("LotBeliefs$School", "kills", "I", false)
  | 10 => ("LotBeliefs$School", "lawNow", "I", false)
  | 11 => ("LotBeliefs$School", "left", "J", false)
  | _ => ("LotBeliefs$School", "this$0", "LLotBeliefs;", true)
def tyX5 : Nat → FieldType := fun k => match k with
  | 0 => .array .int
  | 1 => .array .int
  | 2 => .array .int
  | 3 => .array .int
  | 4 => .array .int
  | 5 => .array .int
  | 6 => .array .int
  | 7 => .int
  | 8 => .int
  | 9 => .int
  | 10 => .int
  | 11 => .long
  | _ => .object "LotBeliefs"
abbrev wsX50 : List Cond := u_ws RX5 TX5 13
set_option maxRecDepth 100000 in
theorem nmX5 : ∀ a, a < 13 → ∀ b, b < 13 → a ≠ b → (TX5 a).2.1 ≠ (TX5 b).2.1 := by decide +kernel
set_option maxRecDepth 100000 in
theorem tyX5_ok : ∀ k, k < 13 → parseFieldDescriptor (TX5 k).2.2.1 = some (tyX5 k) := by decide +kernel
theorem in_X5 : ∀ w ∈ wsX50, w ∈ lw_all := lw_in wsX50 [630, 632, 634, 636, 638, 640, 642, 644, 646, 648, 650, 652, 654] (by decide +kernel) (by decide +kernel)
def RX6 : String := "LotBeliefsModel"
def TX6 : u_T := fun k => match k with
  | 0 => ("LotBeliefsModel", "thrown", "I", false)
  | 1 => ("LotBeliefsModel", "tape", "I", false)
  | 2 => ("LotBeliefsModel", "size", "I", false)
  | 3 => ("LotBeliefsModel", "place", "I", false)
  | 4 => ("LotBeliefsModel", "at", "I", false)
  | 5 => ("LotBeliefsModel", "fault", "I", false)
  | 6 => ("LotBeliefsModel", "faultAt", "I", false)
  | 7 => ("LotBeliefsModel", "clauses", "I", false)
  | 8 => ("LotBeliefsModel", "open", "I", false)
  | 9 => ("LotBeliefsModel", "fed", "[I", true)
  | 10 => ("LotBeliefsModel", "refused", "[I", true)
  | 11 => ("LotBeliefsModel", "readTold", "[I", true)
  | 12 => ("LotBeliefsModel", "told", "[I", true)
  | 13 => ("LotBeliefsModel", "readWeek", "[I", true)
  | 14 => ("LotBeliefsModel", "seeWeek", "[I", true)
  | 15 => ("LotBeliefsModel", "readModels", "[J", true)
  | 16 => ("LotBeliefsModel", "models", "[J", true)
  | 17 => ("LotBeliefsModel", "readSeen", "[J", true)
  | 18 => ("LotBeliefsModel", "seen", "[J", true)
  | 19 => ("LotBeliefsModel", "leftIn", "[J", true)
  | 20 => ("LotBeliefsModel", "question", "J", false)
  | 21 => ("LotBeliefsModel", "order", "[I", true)
  | 22 => ("LotBeliefsModel", "images", "I", false)
  | 23 => ("LotBeliefsModel", "spot", "I", false)
  | 24 => ("LotBeliefsModel", "kept", "[[I", true)
  | 25 => ("LotBeliefsModel", "whos", "I", false)
  | 26 => ("LotBeliefsModel", "readWhos", "I", false)
  | 27 => ("LotBeliefsModel", "codes", "I", false)
  | 28 => ("LotBeliefsModel", "readCodes", "I", false)
  | 29 => ("LotBeliefsModel", "who", "[[I", true)
  | 30 => ("LotBeliefsModel", "readWho", "[[I", true)
  | 31 => ("LotBeliefsModel", "code", "[[I", true)
  | 32 => ("LotBeliefsModel", "readCode", "[[I", true)
  | 33 => ("LotBeliefsModel", "stack", "[I", true)
  | 34 => ("LotBeliefsModel", "row", "[I", true)
  | 35 => ("LotBeliefsModel", "heldRow", "[I", true)
  | 36 => ("LotBeliefsModel", "drawnIn", "[I", true)
  | 37 => ("LotBeliefsModel", "fellIn", "[I", true)
  | 38 => ("LotBeliefsModel", "fellBy", "[I", true)
  | 39 => ("LotBeliefsModel", "weeksOf", "[I", true)
  | 40 => ("LotBeliefsModel", "hurtsOf", "[I", true)
  | 41 => ("LotBeliefsModel", "heldBehind", "[I", true)
  | 42 => ("LotBeliefsModel", "eldestBehind", "[I", true)
  | 43 => ("LotBeliefsModel", "rowMany", "I", false)
  | 44 => ("LotBeliefsModel", "heldMany", "I", false)
  | 45 => ("LotBeliefsModel", "fell", "I", false)
  | 46 => ("LotBeliefsModel", "killed", "I", false)
  | 47 => ("LotBeliefsModel", "hurts", "I", false)
  | 48 => ("LotBeliefsModel", "yearLaw", "I", false)
  | 49 => ("LotBeliefsModel", "meets", "[I", true)
  | 50 => ("LotBeliefsModel", "been", "[Z", true)
  | 51 => ("LotBeliefsModel", "holds", "[I", true)
  | 52 => ("LotBeliefsModel", "always", "I", false)
  | 53 => ("LotBeliefsModel", "ever", "I", false)
  | 54 => ("LotBeliefsModel", "unlike", "I", false)
  | 55 => ("LotBeliefsModel", "trues", "I", false)
  | 56 => ("LotBeliefsModel", "bestTrues", "I", false)
  | 57 => ("LotBeliefsModel", "worstHurts", "I", false)
  | 58 => ("LotBeliefsModel", "bestRow", "[I", true)
  | 59 => ("LotBeliefsModel", "worstRow", "[I", true)
  | 60 => ("LotBeliefsModel", "schoolBehind", "[[I", true)
  | _ => ("LotBeliefsModel", "plainOf", "[I", true)
def tyX6 : Nat → FieldType := fun k => match k with
  | 0 => .int
  | 1 => .int
  | 2 => .int
  | 3 => .int
  | 4 => .int
  | 5 => .int
  | 6 => .int
  | 7 => .int
  | 8 => .int
  | 9 => .array .int
  | 10 => .array .int
  | 11 => .array .int
  | 12 => .array .int
  | 13 => .array .int
  | 14 => .array .int
  | 15 => .array .long
  | 16 => .array .long
  | 17 => .array .long
  | 18 => .array .long
  | 19 => .array .long
  | 20 => .long
  | 21 => .array .int
  | 22 => .int
  | 23 => .int
  | 24 => .array (.array .int)
  | 25 => .int
  | 26 => .int
  | 27 => .int
  | 28 => .int
  | 29 => .array (.array .int)
  | 30 => .array (.array .int)
  | 31 => .array (.array .int)
  | 32 => .array (.array .int)
  | 33 => .array .int
  | 34 => .array .int
  | 35 => .array .int
  | 36 => .array .int
  | 37 => .array .int
  | 38 => .array .int
  | 39 => .array .int
  | 40 => .array .int
  | 41 => .array .int
  | 42 => .array .int
  | 43 => .int
  | 44 => .int
  | 45 => .int
  | 46 => .int
  | 47 => .int
  | 48 => .int
  | 49 => .array .int
  | 50 => .array .boolean
  | 51 => .array .int
  | 52 => .int
  | 53 => .int
  | 54 => .int
  | 55 => .int
  | 56 => .int
  | 57 => .int
  | 58 => .array .int
  | 59 => .array .int
  | 60 => .array (.array .int)
  | _ => .array .int
abbrev wsX60 : List Cond := u_ws RX6 TX6 62
set_option maxRecDepth 100000 in
theorem nmX6 : ∀ a, a < 62 → ∀ b, b < 62 → a ≠ b → (TX6 a).2.1 ≠ (TX6 b).2.1 := by decide +kernel
set_option maxRecDepth 100000 in
theorem tyX6_ok : ∀ k, k < 62 → parseFieldDescriptor (TX6 k).2.2.1 = some (tyX6 k) := by decide +kernel
theorem in_X6 : ∀ w ∈ wsX60, w ∈ lw_all := lw_in wsX60 [2048, 2050, 2052, 2054, 2056, 2058, 2060, 2062, 2064, 2066, 2068, 2070, 2072, 2074, 2076, 2078, 2080, 2082, 2084, 2086, 2088, 2090, 2092, 2094, 2096, 2098, 2100, 2102, 2104, 2106, 2108, 2110, 2112, 2114, 2116, 2118, 2120, 2122, 2124, 2126, 2128, 2130, 2132, 2134, 2136, 2138, 2140, 2142, 2144, 2146, 2148, 2150, 2152, 2154, 2156, 2158, 2160, 2162, 2164, 2166, 2168, 2170] (by decide +kernel) (by decide +kernel)
def RX7 : String := "LotBeliefs$Reader"
def TX7 : u_T := fun k => match k with
  | 0 => ("LotBeliefs$Reader", "text", "[B", true)
  | 1 => ("LotBeliefs$Reader", "size", "I", true)
  | 2 => ("LotBeliefs$Reader", "jar", "LLotBeliefs$Jar;", true)
  | 3 => ("LotBeliefs$Reader", "next", "I", false)
  | 4 => ("LotBeliefs$Reader", "from", "I", false)
  | _ => ("LotBeliefs$Reader", "open", "I", false)
def tyX7 : Nat → FieldType := fun k => match k with
  | 0 => .array .byte
  | 1 => .int
  | 2 => .object "LotBeliefs$Jar"
  | 3 => .int
  | 4 => .int
  | _ => .int
abbrev wsX70 : List Cond := u_ws RX7 TX7 6
theorem nmX7 : ∀ a, a < 6 → ∀ b, b < 6 → a ≠ b → (TX7 a).2.1 ≠ (TX7 b).2.1 := by decide +kernel
theorem tyX7_ok : ∀ k, k < 6 → parseFieldDescriptor (TX7 k).2.2.1 = some (tyX7 k) := by decide +kernel
theorem in_X7 : ∀ w ∈ wsX70, w ∈ lw_all := lw_in wsX70 [1026, 1028, 1030, 1032, 1034, 1036] (by decide +kernel) (by decide +kernel)
def RX8 : String := "LotBeliefs$Wrong"
def TX8 : u_T := fun k => match k with
  | 0 => ("java/lang/Throwable", "cause", "Ljava/lang/Throwable;", false)
  | 1 => ("java/lang/Throwable", "stackTrace", "[Ljava/lang/StackTraceElement;", false)
  | 2 => ("java/lang/Throwable", "suppressedExceptions", "Ljava/util/List;", false)
  | 3 => ("java/lang/Throwable", "detailMessage", "Ljava/lang/String;", false)
  | 4 => ("java/lang/Throwable", "backtrace", "Ljava/lang/Object;", false)
  | 5 => ("java/lang/Throwable", "depth", "I", false)
  | 6 => ("LotBeliefs$Wrong", "kind", "I", true)
  | _ => ("LotBeliefs$Wrong", "place", "I", true)
def tyX8 : Nat → FieldType := fun k => match k with
  | 0 => .object "java/lang/Throwable"
  | 1 => .array (.object "java/lang/StackTraceElement")
  | 2 => .object "java/util/List"
  | 3 => .object "java/lang/String"
  | 4 => .object "java/lang/Object"
  | 5 => .int
  | 6 => .int
  | _ => .int
abbrev wsX80 : List Cond := u_ws RX8 TX8 8
theorem nmX8 : ∀ a, a < 8 → ∀ b, b < 8 → a ≠ b → (TX8 a).2.1 ≠ (TX8 b).2.1 := by decide +kernel
theorem tyX8_ok : ∀ k, k < 8 → parseFieldDescriptor (TX8 k).2.2.1 = some (tyX8 k) := by decide +kernel
theorem in_X8 : ∀ w ∈ wsX80, w ∈ lw_all := lw_in wsX80 [1162, 1163, 1164, 1165, 1166, 1184, 1180, 1182] (by decide +kernel) (by decide +kernel)
def RX9 : String := "LotBeliefs$Seeing"
def TX9 : u_T := fun k => match k with
  | 0 => ("LotBeliefs$Seeing", "week", "I", true)
  | _ => ("LotBeliefs$Seeing", "models", "J", true)
def tyX9 : Nat → FieldType := fun k => match k with
  | 0 => .int
  | _ => .long
abbrev wsX90 : List Cond := u_ws RX9 TX9 2
theorem nmX9 : ∀ a, a < 2 → ∀ b, b < 2 → a ≠ b → (TX9 a).2.1 ≠ (TX9 b).2.1 := by decide +kernel
theorem tyX9_ok : ∀ k, k < 2 → parseFieldDescriptor (TX9 k).2.2.1 = some (tyX9 k) := by decide +kernel
theorem in_X9 : ∀ w ∈ wsX90, w ∈ lw_all := lw_in wsX90 [1255, 1257] (by decide +kernel) (by decide +kernel)
def RX10 : String := "LotBeliefs$TongueReader"
def TX10 : u_T := fun k => match k with
  | 0 => ("LotBeliefs$TongueReader", "text", "[B", true)
  | 1 => ("LotBeliefs$TongueReader", "size", "I", true)
  | 2 => ("LotBeliefs$TongueReader", "tongue", "LLotBeliefs$Tongue;", true)
  | 3 => ("LotBeliefs$TongueReader", "next", "I", false)
  | _ => ("LotBeliefs$TongueReader", "open", "I", false)
def tyX10 : Nat → FieldType := fun k => match k with
  | 0 => .array .byte
  | 1 => .int
  | 2 => .object "LotBeliefs$Tongue"
  | 3 => .int
  | _ => .int
abbrev wsX100 : List Cond := u_ws RX10 TX10 5
theorem nmX10 : ∀ a, a < 5 → ∀ b, b < 5 → a ≠ b → (TX10 a).2.1 ≠ (TX10 b).2.1 := by decide +kernel
theorem tyX10_ok : ∀ k, k < 5 → parseFieldDescriptor (TX10 k).2.2.1 = some (tyX10 k) := by decide +kernel
theorem in_X10 : ∀ w ∈ wsX100, w ∈ lw_all := lw_in wsX100 [1349, 1351, 1353, 1355, 1357] (by decide +kernel) (by decide +kernel)
def RX12 : String := "LotBeliefs$Some"
def TX12 : u_T := fun k => match k with
  | 0 => ("LotBeliefs$Some", "all", "Z", true)
  | _ => ("LotBeliefs$Some", "grounds", "Ljava/util/ArrayList;", true)
def tyX12 : Nat → FieldType := fun k => match k with
  | 0 => .boolean
  | _ => .object "java/util/ArrayList"
abbrev wsX120 : List Cond := u_ws RX12 TX12 2
theorem nmX12 : ∀ a, a < 2 → ∀ b, b < 2 → a ≠ b → (TX12 a).2.1 ≠ (TX12 b).2.1 := by decide +kernel
theorem tyX12_ok : ∀ k, k < 2 → parseFieldDescriptor (TX12 k).2.2.1 = some (tyX12 k) := by decide +kernel
theorem in_X12 : ∀ w ∈ wsX120, w ∈ lw_all := lw_in wsX120 [1407, 1409] (by decide +kernel) (by decide +kernel)
def RX13 : String := "LotBeliefs$Never"
def TX13 : u_T := fun k => match k with
  | _ => ("LotBeliefs$Never", "a", "LLotBeliefs$Ground;", true)
def tyX13 : Nat → FieldType := fun k => match k with
  | _ => .object "LotBeliefs$Ground"
abbrev wsX130 : List Cond := u_ws RX13 TX13 1
theorem nmX13 : ∀ a, a < 1 → ∀ b, b < 1 → a ≠ b → (TX13 a).2.1 ≠ (TX13 b).2.1 := by decide +kernel
theorem tyX13_ok : ∀ k, k < 1 → parseFieldDescriptor (TX13 k).2.2.1 = some (tyX13 k) := by decide +kernel
theorem in_X13 : ∀ w ∈ wsX130, w ∈ lw_all := lw_in wsX130 [1432] (by decide +kernel) (by decide +kernel)
def RX15 : String := "LotBeliefs$Row"
def TX15 : u_T := fun k => match k with
  | 0 => ("LotBeliefs$Row", "terms", "Ljava/util/ArrayList;", true)
  | _ => ("LotBeliefs$Row", "signs", "Ljava/util/ArrayList;", true)
def tyX15 : Nat → FieldType := fun k => match k with
  | 0 => .object "java/util/ArrayList"
  | _ => .object "java/util/ArrayList"
abbrev wsX150 : List Cond := u_ws RX15 TX15 2
theorem nmX15 : ∀ a, a < 2 → ∀ b, b < 2 → a ≠ b → (TX15 a).2.1 ≠ (TX15 b).2.1 := by decide +kernel
theorem tyX15_ok : ∀ k, k < 2 → parseFieldDescriptor (TX15 k).2.2.1 = some (tyX15 k) := by decide +kernel
theorem in_X15 : ∀ w ∈ wsX150, w ∈ lw_all := lw_in wsX150 [1528, 1530] (by decide +kernel) (by decide +kernel)
def RX16 : String := "LotBeliefs$Plain"
def TX16 : u_T := fun k => match k with
  | _ => ("LotBeliefs$Plain", "n", "I", true)
def tyX16 : Nat → FieldType := fun k => match k with
  | _ => .int
abbrev wsX160 : List Cond := u_ws RX16 TX16 1
theorem nmX16 : ∀ a, a < 1 → ∀ b, b < 1 → a ≠ b → (TX16 a).2.1 ≠ (TX16 b).2.1 := by decide +kernel
theorem tyX16_ok : ∀ k, k < 1 → parseFieldDescriptor (TX16 k).2.2.1 = some (tyX16 k) := by decide +kernel
theorem in_X16 : ∀ w ∈ wsX160, w ∈ lw_all := lw_in wsX160 [1468] (by decide +kernel) (by decide +kernel)
def RX17 : String := "LotBeliefs$Fact"
def TX17 : u_T := fun k => match k with
  | _ => ("LotBeliefs$Fact", "which", "I", true)
def tyX17 : Nat → FieldType := fun k => match k with
  | _ => .int
abbrev wsX170 : List Cond := u_ws RX17 TX17 1
theorem nmX17 : ∀ a, a < 1 → ∀ b, b < 1 → a ≠ b → (TX17 a).2.1 ≠ (TX17 b).2.1 := by decide +kernel
theorem tyX17_ok : ∀ k, k < 1 → parseFieldDescriptor (TX17 k).2.2.1 = some (tyX17 k) := by decide +kernel
theorem in_X17 : ∀ w ∈ wsX170, w ∈ lw_all := lw_in wsX170 [1492] (by decide +kernel) (by decide +kernel)
def RX18 : String := "LotBeliefs$Holds"
def TX18 : u_T := fun k => match k with
  | 0 => ("LotBeliefs$Holds", "a", "LLotBeliefs$Term;", true)
  | 1 => ("LotBeliefs$Holds", "b", "LLotBeliefs$Term;", true)
  | _ => ("LotBeliefs$Holds", "sign", "I", true)
def tyX18 : Nat → FieldType := fun k => match k with
  | 0 => .object "LotBeliefs$Term"
  | 1 => .object "LotBeliefs$Term"
  | _ => .int
abbrev wsX180 : List Cond := u_ws RX18 TX18 3
theorem nmX18 : ∀ a, a < 3 → ∀ b, b < 3 → a ≠ b → (TX18 a).2.1 ≠ (TX18 b).2.1 := by decide +kernel
theorem tyX18_ok : ∀ k, k < 3 → parseFieldDescriptor (TX18 k).2.2.1 = some (tyX18 k) := by decide +kernel
theorem in_X18 : ∀ w ∈ wsX180, w ∈ lw_all := lw_in wsX180 [1543, 1545, 1547] (by decide +kernel) (by decide +kernel)
def RJ2 : String := "java/util/ArrayList"
def TJ2 : u_T := fun k => match k with
  | 0 => ("java/util/AbstractList", "modCount", "I", false)
  | 1 => ("java/util/ArrayList", "elementData", "[Ljava/lang/Object;", false)
  | _ => ("java/util/ArrayList", "size", "I", false)
def tyJ2 : Nat → FieldType := fun k => match k with
  | 0 => .int
  | 1 => .array (.object "java/lang/Object")
  | _ => .int
abbrev wsJ20 : List Cond := u_ws RJ2 TJ2 3
theorem nmJ2 : ∀ a, a < 3 → ∀ b, b < 3 → a ≠ b → (TJ2 a).2.1 ≠ (TJ2 b).2.1 := by decide +kernel
theorem tyJ2_ok : ∀ k, k < 3 → parseFieldDescriptor (TJ2 k).2.2.1 = some (tyJ2 k) := by decide +kernel
theorem in_J2 : ∀ w ∈ wsJ20, w ∈ lw_all := lw_in wsJ20 [523, 519, 521] (by decide +kernel) (by decide +kernel)
def RJ8 : String := "java/lang/StringBuilder"
def TJ8 : u_T := fun k => match k with
  | 0 => ("java/lang/AbstractStringBuilder", "value", "[B", false)
  | 1 => ("java/lang/AbstractStringBuilder", "coder", "B", false)
  | 2 => ("java/lang/AbstractStringBuilder", "maybeLatin1", "Z", false)
  | _ => ("java/lang/AbstractStringBuilder", "count", "I", false)
def tyJ8 : Nat → FieldType := fun k => match k with
  | 0 => .array .byte
  | 1 => .byte
  | 2 => .boolean
  | _ => .int
abbrev wsJ80 : List Cond := u_ws RJ8 TJ8 4
theorem nmJ8 : ∀ a, a < 4 → ∀ b, b < 4 → a ≠ b → (TJ8 a).2.1 ≠ (TJ8 b).2.1 := by decide +kernel
theorem tyJ8_ok : ∀ k, k < 4 → parseFieldDescriptor (TJ8 k).2.2.1 = some (tyJ8 k) := by decide +kernel
theorem in_J8 : ∀ w ∈ wsJ80, w ∈ lw_all := lw_in wsJ80 [263, 265, 267, 269] (by decide +kernel) (by decide +kernel)
def RJ9 : String := "java/lang/String"
def TJ9 : u_T := fun k => match k with
  | 0 => ("java/lang/String", "value", "[B", true)
  | 1 => ("java/lang/String", "coder", "B", true)
  | 2 => ("java/lang/String", "hash", "I", false)
  | _ => ("java/lang/String", "hashIsZero", "Z", false)
def tyJ9 : Nat → FieldType := fun k => match k with
  | 0 => .array .byte
  | 1 => .byte
  | 2 => .int
  | _ => .boolean
abbrev wsJ90 : List Cond := u_ws RJ9 TJ9 4
theorem nmJ9 : ∀ a, a < 4 → ∀ b, b < 4 → a ≠ b → (TJ9 a).2.1 ≠ (TJ9 b).2.1 := by decide +kernel
theorem tyJ9_ok : ∀ k, k < 4 → parseFieldDescriptor (TJ9 k).2.2.1 = some (tyJ9 k) := by decide +kernel
theorem in_J9 : ∀ w ∈ wsJ90, w ∈ lw_all := lw_in wsJ90 [504, 506, 508, 510] (by decide +kernel) (by decide +kernel)
def RJ17 : String := "java/lang/Integer"
def TJ17 : u_T := fun k => match k with
  | _ => ("java/lang/Integer", "value", "I", true)
def tyJ17 : Nat → FieldType := fun k => match k with
  | _ => .int
abbrev wsJ170 : List Cond := u_ws RJ17 TJ17 1
theorem nmJ17 : ∀ a, a < 1 → ∀ b, b < 1 → a ≠ b → (TJ17 a).2.1 ≠ (TJ17 b).2.1 := by decide +kernel
theorem tyJ17_ok : ∀ k, k < 1 → parseFieldDescriptor (TJ17 k).2.2.1 = some (tyJ17 k) := by decide +kernel
theorem in_J17 : ∀ w ∈ wsJ170, w ∈ lw_all := lw_in wsJ170 [1522] (by decide +kernel) (by decide +kernel)
/-- the classes of ours, by number: 0 X1, 1 X2, 2 X3, 3 X4, 4 X5, 5 X6, 6 X7, 7 X8, 8 X9, 9 X10, 10 X12, 11 X13, 12 X15, 13 X16, 14 X17, 15 X18, 16 J2, 17 J8, 18 J9, 19 J17 -/
abbrev zCl : List vw_C := [(RX1, TX1, 30), (RX2, TX2, 8), (RX3, TX3, 2), (RX4, TX4, 3), (RX5, TX5, 13), (RX6, TX6, 62), (RX7, TX7, 6), (RX8, TX8, 8), (RX9, TX9, 2), (RX10, TX10, 5), (RX12, TX12, 2), (RX13, TX13, 1), (RX15, TX15, 2), (RX16, TX16, 1), (RX17, TX17, 1), (RX18, TX18, 3), (RJ2, TJ2, 3), (RJ8, TJ8, 4), (RJ9, TJ9, 4), (RJ17, TJ17, 1)]
abbrev zCt : List (Nat → FieldType) := [tyX1, tyX2, tyX3, tyX4, tyX5, tyX6, tyX7, tyX8, tyX9, tyX10, tyX12, tyX13, tyX15, tyX16, tyX17, tyX18, tyJ2, tyJ8, tyJ9, tyJ17]
/-- the kinds of arrays -/
abbrev zAk : List FieldType := [.int, .long, .byte, .boolean, .object "java/lang/Object", .object "LotBeliefs$State", .array .int, .int, .object "java/lang/Integer"]
abbrev zAov : List String := ["java/lang/Object", "LotBeliefs$State"]
/-- the String constants: class, entry, text, address -/
abbrev zStr : List (String × Nat × String × Nat) := [("LotBeliefs$Reader", 107, "atoms", 1), ("LotBeliefs$Reader", 83, "slip", 2), ("LotBeliefs$Reader", 89, "see", 3), ("LotBeliefs$Reader", 91, "salt", 4), ("LotBeliefs$Reader", 109, "world", 5), ("LotBeliefs$Reader", 111, "law", 6), ("LotBeliefs$Reader", 165, "not", 7), ("LotBeliefs$Reader", 172, "if", 8), ("LotBeliefs$Reader", 174, "then", 9), ("LotBeliefs$Reader", 160, "and", 10), ("LotBeliefs$Reader", 152, "or", 11), ("LotBeliefs$TongueReader", 69, "new", 12), ("LotBeliefs$TongueReader", 71, "old", 13), ("LotBeliefs$TongueReader", 73, "both", 14), ("LotBeliefs$TongueReader", 118, "not", 15), ("LotBeliefs$TongueReader", 174, "age", 16), ("LotBeliefs$TongueReader", 176, "hurts", 17), ("LotBeliefs$TongueReader", 178, "olds", 18), ("LotBeliefs$TongueReader", 180, "news", 19), ("LotBeliefs$TongueReader", 182, "oldn", 20), ("LotBeliefs$TongueReader", 184, "newn", 21), ("LotBeliefs$TongueReader", 186, "week", 22), ("LotBeliefs$TongueReader", 188, "held", 23), ("LotBeliefs$TongueReader", 190, "left", 24), ("LotBeliefs$TongueReader", 192, "shared", 25), ("LotBeliefs$TongueReader", 116, "and", 26), ("LotBeliefs$TongueReader", 107, "or", 27)]
abbrev zStx : List (List Nat) := [[97, 116, 111, 109, 115], [115, 108, 105, 112], [115, 101, 101], [115, 97, 108, 116], [119, 111, 114, 108, 100], [108, 97, 119], [110, 111, 116], [105, 102], [116, 104, 101, 110], [97, 110, 100], [111, 114], [110, 101, 119], [111, 108, 100], [98, 111, 116, 104], [110, 111, 116], [97, 103, 101], [104, 117, 114, 116, 115], [111, 108, 100, 115], [110, 101, 119, 115], [111, 108, 100, 110], [110, 101, 119, 110], [119, 101, 101, 107], [104, 101, 108, 100], [108, 101, 102, 116], [115, 104, 97, 114, 101, 100], [97, 110, 100], [111, 114]]
abbrev zSth : List Int32 := [93147458, 3533120, 113747, 3522646, 113318802, 106914, 109267, 3357, 3558941, 96727, 3555, 108960, 110119, 3029889, 109267, 96511, 99644996, 3413804, 3377875, 3413799, 3377870, 3645428, 3198773, 3317767, (-903566235), 96727, 3555]
/-- what lies below zK: 1..27 Strings, 31..57 their bytes, 61, 62 the two empty arrays, 63 the cache, 64 65 what Throwable's statics hold, 66 the mirror of Object[], 100..355 its Integers -/
def zF_sh (a : Nat) : Option (Nat ⊕ (Nat × Nat)) := if a = 0 then none else if a < 28 then some (.inl 18) else if a < 31 then none else if a < 58 then some (.inr (2, (zStx.getD (a - 31) []).length)) else if a = 61 ∨ a = 62 then some (.inr (4, 0)) else if a = 63 then some (.inr (8, 256)) else if 100 ≤ a ∧ a < 356 then some (.inl 19) else none
def zF_fr (a k : Nat) : Option Nat := if 1 ≤ a ∧ a < 28 ∧ k = 0 then some (a + 30) else none
def zF_ar (a j : Nat) : Option Nat := if a = 63 ∧ j < 256 then some (100 + j) else none
def zF_fi (a k : Nat) : Int32 := if 1 ≤ a ∧ a < 28 then (if k = 2 then zSth.getD (a - 1) 0 else 0) else if 100 ≤ a ∧ a < 356 then nI (a - 100) - 128 else 0
def zF_ai (a j : Nat) : Int32 := if 31 ≤ a ∧ a < 58 then nI ((zStx.getD (a - 31) []).getD j 0) else 0
/-- the statics that are read: class, name, descriptor, value -/
abbrev zStl : List (String × String × String × Value) := [("java/util/ArrayList", "EMPTY_ELEMENTDATA", "[Ljava/lang/Object;", .ref 61), ("java/util/ArrayList", "DEFAULTCAPACITY_EMPTY_ELEMENTDATA", "[Ljava/lang/Object;", .ref 62), ("java/lang/Integer$IntegerCache", "cache", "[Ljava/lang/Integer;", .ref 63), ("java/lang/Integer$IntegerCache", "high", "I", .int 127), ("java/lang/String", "COMPACT_STRINGS", "Z", .int 1), ("java/lang/Throwable", "UNASSIGNED_STACK", "[Ljava/lang/StackTraceElement;", .ref 64), ("java/lang/Throwable", "SUPPRESSED_SENTINEL", "Ljava/util/List;", .ref 65)]
