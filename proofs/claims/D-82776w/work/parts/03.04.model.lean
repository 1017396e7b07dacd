/-! CliffHoneyModel -/
set_option maxRecDepth 100000
def RX4 : String := "CliffHoneyModel"
def TX4 : u_T := fun k => match k with
  | 0 => ("CliffHoneyModel", "date", "I", false)
  | 1 => ("CliffHoneyModel", "wind", "I", false)
  | 2 => ("CliffHoneyModel", "sun", "I", false)
  | 3 => ("CliffHoneyModel", "stings", "I", false)
  | 4 => ("CliffHoneyModel", "give", "[I", true)
  | 5 => ("CliffHoneyModel", "mad", "[I", true)
  | 6 => ("CliffHoneyModel", "ledges", "I", false)
  | 7 => ("CliffHoneyModel", "column", "[I", true)
  | 8 => ("CliffHoneyModel", "height", "[I", true)
  | 9 => ("CliffHoneyModel", "strength", "[I", true)
  | 10 => ("CliffHoneyModel", "comb", "[I", true)
  | 11 => ("CliffHoneyModel", "madness", "[I", true)
  | 12 => ("CliffHoneyModel", "kept", "[I", true)
  | 13 => ("CliffHoneyModel", "finder", "[I", true)
  | 14 => ("CliffHoneyModel", "guessLow", "[I", true)
  | 15 => ("CliffHoneyModel", "guessHigh", "[I", true)
  | 16 => ("CliffHoneyModel", "isCut", "[Z", true)
  | 17 => ("CliffHoneyModel", "isSprayed", "[Z", true)
  | 18 => ("CliffHoneyModel", "many", "[I", true)
  | 19 => ("CliffHoneyModel", "learn", "[I", true)
  | 20 => ("CliffHoneyModel", "old", "[I", true)
  | 21 => ("CliffHoneyModel", "shares", "[I", true)
  | 22 => ("CliffHoneyModel", "sort", "[I", true)
  | 23 => ("CliffHoneyModel", "from", "[I", true)
  | 24 => ("CliffHoneyModel", "when", "[I", true)
  | 25 => ("CliffHoneyModel", "step", "[I", true)
  | 26 => ("CliffHoneyModel", "freshSort", "[I", true)
  | 27 => ("CliffHoneyModel", "freshFrom", "[I", true)
  | 28 => ("CliffHoneyModel", "freshWhen", "[I", true)
  | 29 => ("CliffHoneyModel", "freshWho", "[I", true)
  | 30 => ("CliffHoneyModel", "freshNumber", "[I", true)
  | 31 => ("CliffHoneyModel", "fresh", "[I", true)
  | 32 => ("CliffHoneyModel", "tape", "[I", true)
  | 33 => ("CliffHoneyModel", "pile", "[I", true)
  | 34 => ("CliffHoneyModel", "freshLines", "I", false)
  | 35 => ("CliffHoneyModel", "freshSteps", "I", false)
  | 36 => ("CliffHoneyModel", "taped", "I", false)
  | 37 => ("CliffHoneyModel", "at", "I", false)
  | 38 => ("CliffHoneyModel", "token", "I", false)
  | 39 => ("CliffHoneyModel", "tokenAt", "I", false)
  | 40 => ("CliffHoneyModel", "value", "I", false)
  | 41 => ("CliffHoneyModel", "wrong", "I", false)
  | 42 => ("CliffHoneyModel", "wrongAt", "I", false)
  | 43 => ("CliffHoneyModel", "faultKind", "I", false)
  | 44 => ("CliffHoneyModel", "depth", "I", false)
  | 45 => ("CliffHoneyModel", "faultPlace", "I", false)
  | 46 => ("CliffHoneyModel", "ladders", "I", false)
  | 47 => ("CliffHoneyModel", "reachOf", "[I", true)
  | 48 => ("CliffHoneyModel", "madeIn", "[I", true)
  | 49 => ("CliffHoneyModel", "some", "[I", true)
  | 50 => ("CliffHoneyModel", "row", "[I", true)
  | 51 => ("CliffHoneyModel", "next", "[I", true)
  | 52 => ("CliffHoneyModel", "units", "[I", true)
  | 53 => ("CliffHoneyModel", "minutes", "[I", true)
  | 54 => ("CliffHoneyModel", "stung", "[I", true)
  | 55 => ("CliffHoneyModel", "best", "[I", true)
  | 56 => ("CliffHoneyModel", "someMany", "I", false)
  | 57 => ("CliffHoneyModel", "bestMany", "I", false)
  | 58 => ("CliffHoneyModel", "bestUnits", "I", false)
  | 59 => ("CliffHoneyModel", "bestMinutes", "I", false)
  | 60 => ("CliffHoneyModel", "bestStings", "I", false)
  | 61 => ("CliffHoneyModel", "people", "I", false)
  | 62 => ("CliffHoneyModel", "right", "I", false)
  | 63 => ("CliffHoneyModel", "weight", "[I", true)
  | 64 => ("CliffHoneyModel", "heirOf", "[I", true)
  | 65 => ("CliffHoneyModel", "learned", "[I", true)
  | 66 => ("CliffHoneyModel", "money", "[I", true)
  | 67 => ("CliffHoneyModel", "isAlive", "[Z", true)
  | 68 => ("CliffHoneyModel", "lots", "I", false)
  | 69 => ("CliffHoneyModel", "everCut", "I", false)
  | 70 => ("CliffHoneyModel", "temple", "I", false)
  | 71 => ("CliffHoneyModel", "lotUnits", "[I", true)
  | 72 => ("CliffHoneyModel", "lotLow", "[I", true)
  | 73 => ("CliffHoneyModel", "lotHigh", "[I", true)
  | 74 => ("CliffHoneyModel", "lotCutter", "[I", true)
  | 75 => ("CliffHoneyModel", "lotRope", "[I", true)
  | 76 => ("CliffHoneyModel", "lotDate", "[I", true)
  | 77 => ("CliffHoneyModel", "lotOne", "[I", true)
  | 78 => ("CliffHoneyModel", "lotTwo", "[I", true)
  | 79 => ("CliffHoneyModel", "lotBy", "[I", true)
  | 80 => ("CliffHoneyModel", "lotSet", "[I", true)
  | 81 => ("CliffHoneyModel", "isThere", "[Z", true)
  | 82 => ("CliffHoneyModel", "villages", "[I", true)
  | 83 => ("CliffHoneyModel", "buyers", "I", false)
  | 84 => ("CliffHoneyModel", "buyLow", "[I", true)
  | 85 => ("CliffHoneyModel", "buyHigh", "[I", true)
  | 86 => ("CliffHoneyModel", "price", "[I", true)
  | 87 => ("CliffHoneyModel", "takesStill", "[I", true)
  | 88 => ("CliffHoneyModel", "offered", "[I", true)
  | 89 => ("CliffHoneyModel", "given", "[I", true)
  | 90 => ("CliffHoneyModel", "saleOf", "[I", true)
  | 91 => ("CliffHoneyModel", "placed", "[I", true)
  | 92 => ("CliffHoneyModel", "offeredMany", "I", false)
  | 93 => ("CliffHoneyModel", "saleMoney", "I", false)
  | 94 => ("CliffHoneyModel", "saleMany", "I", false)
  | 95 => ("CliffHoneyModel", "claims", "I", false)
  | 96 => ("CliffHoneyModel", "claimLedge", "[I", true)
  | 97 => ("CliffHoneyModel", "claimBy", "[I", true)
  | 98 => ("CliffHoneyModel", "claimFrom", "[I", true)
  | 99 => ("CliffHoneyModel", "claimTold", "[I", true)
  | 100 => ("CliffHoneyModel", "had", "[I", true)
  | 101 => ("CliffHoneyModel", "hadCut", "[Z", true)
  | _ => ("CliffHoneyModel", "hadSprayed", "[Z", true)
def tyX4 : Nat → FieldType := fun k => match k with
  | 0 => .int
  | 1 => .int
  | 2 => .int
  | 3 => .int
  | 4 => .array .int
  | 5 => .array .int
  | 6 => .int
  | 7 => .array .int
  | 8 => .array .int
  | 9 => .array .int
  | 10 => .array .int
  | 11 => .array .int
  | 12 => .array .int
  | 13 => .array .int
  | 14 => .array .int
  | 15 => .array .int
  | 16 => .array .boolean
  | 17 => .array .boolean
  | 18 => .array .int
  | 19 => .array .int
  | 20 => .array .int
  | 21 => .array .int
  | 22 => .array .int
  | 23 => .array .int
  | 24 => .array .int
  | 25 => .array .int
  | 26 => .array .int
  | 27 => .array .int
  | 28 => .array .int
  | 29 => .array .int
  | 30 => .array .int
  | 31 => .array .int
  | 32 => .array .int
  | 33 => .array .int
  | 34 => .int
  | 35 => .int
  | 36 => .int
  | 37 => .int
  | 38 => .int
  | 39 => .int
  | 40 => .int
  | 41 => .int
  | 42 => .int
  | 43 => .int
  | 44 => .int
  | 45 => .int
  | 46 => .int
  | 47 => .array .int
  | 48 => .array .int
  | 49 => .array .int
  | 50 => .array .int
  | 51 => .array .int
  | 52 => .array .int
  | 53 => .array .int
  | 54 => .array .int
  | 55 => .array .int
  | 56 => .int
  | 57 => .int
  | 58 => .int
  | 59 => .int
  | 60 => .int
  | 61 => .int
  | 62 => .int
  | 63 => .array .int
  | 64 => .array .int
  | 65 => .array .int
  | 66 => .array .int
  | 67 => .array .boolean
  | 68 => .int
  | 69 => .int
  | 70 => .int
  | 71 => .array .int
  | 72 => .array .int
  | 73 => .array .int
  | 74 => .array .int
  | 75 => .array .int
  | 76 => .array .int
  | 77 => .array .int
  | 78 => .array .int
  | 79 => .array .int
  | 80 => .array .int
  | 81 => .array .boolean
  | 82 => .array .int
  | 83 => .int
  | 84 => .array .int
  | 85 => .array .int
  | 86 => .array .int
  | 87 => .array .int
  | 88 => .array .int
  | 89 => .array .int
  | 90 => .array .int
  | 91 => .array .int
  | 92 => .int
  | 93 => .int
  | 94 => .int
  | 95 => .int
  | 96 => .array .int
  | 97 => .array .int
  | 98 => .array .int
  | 99 => .array .int
  | 100 => .array .int
  | 101 => .array .boolean
  | _ => .array .boolean
abbrev wsX40 : List Cond := u_ws RX4 TX4 103
set_option maxRecDepth 100000 in
theorem nmX4 : ∀ a, a < 103 → ∀ b, b < 103 → a ≠ b → (TX4 a).2.1 ≠ (TX4 b).2.1 := by decide +kernel
set_option maxRecDepth 100000 in
theorem tyX4_ok : ∀ k, k < 103 → parseFieldDescriptor (TX4 k).2.2.1 = some (tyX4 k) := by decide +kernel
abbrev cX4_init : ByteArray := prog_23_method_1_code
def yX4_init : MethodName := ⟨RX4, "<init>", "()V"⟩
def dkwX4_init_26 : List UInt8 := [16, 20, 79, 132, 1, 1, 167, 255, 240, 177]
abbrev dktX4_init_26 : List UInt8 := dkwX4_init_26 ++ []
def dkwX4_init_25 : List UInt8 := [180, 0, 16, 27, 8, 79, 132, 1, 1, 167, 255, 240, 3, 60, 27, 5, 162, 0, 17, 42, 180, 0, 63, 27]
abbrev dktX4_init_25 : List UInt8 := dkwX4_init_25 ++ dktX4_init_26
def dkwX4_init_24 : List UInt8 := [16, 12, 188, 4, 181, 0, 228, 42, 16, 12, 188, 4, 181, 0, 231, 3, 60, 27, 16, 6, 162, 0, 16, 42]
abbrev dktX4_init_24 : List UInt8 := dkwX4_init_24 ++ dktX4_init_25
def dkwX4_init_23 : List UInt8 := [16, 100, 188, 10, 181, 0, 219, 42, 16, 100, 188, 10, 181, 0, 222, 42, 16, 96, 188, 10, 181, 0, 225, 42]
abbrev dktX4_init_23 : List UInt8 := dkwX4_init_23 ++ dktX4_init_24
def dkwX4_init_22 : List UInt8 := [42, 7, 188, 10, 181, 0, 210, 42, 16, 100, 188, 10, 181, 0, 213, 42, 16, 100, 188, 10, 181, 0, 216, 42]
abbrev dktX4_init_22 : List UInt8 := dkwX4_init_22 ++ dktX4_init_23
def dkwX4_init_21 : List UInt8 := [42, 16, 8, 188, 10, 181, 0, 201, 42, 16, 8, 188, 10, 181, 0, 204, 42, 16, 8, 188, 10, 181, 0, 207]
abbrev dktX4_init_21 : List UInt8 := dkwX4_init_21 ++ dktX4_init_22
def dkwX4_init_20 : List UInt8 := [181, 0, 189, 42, 7, 188, 10, 181, 0, 192, 42, 7, 188, 10, 181, 0, 195, 42, 7, 188, 10, 181, 0, 198]
abbrev dktX4_init_20 : List UInt8 := dkwX4_init_20 ++ dktX4_init_21
def dkwX4_init_19 : List UInt8 := [181, 0, 180, 42, 16, 40, 188, 4, 181, 0, 183, 42, 5, 188, 10, 181, 0, 186, 42, 7, 188, 10]
abbrev dktX4_init_19 : List UInt8 := dkwX4_init_19 ++ dktX4_init_20
def dkwX4_init_18 : List UInt8 := [42, 16, 40, 188, 10, 181, 0, 174, 42, 17, 1, 224, 188, 10, 181, 0, 177, 42, 16, 40, 188, 10]
abbrev dktX4_init_18 : List UInt8 := dkwX4_init_18 ++ dktX4_init_19
def dkwX4_init_17 : List UInt8 := [42, 16, 40, 188, 10, 181, 0, 165, 42, 16, 40, 188, 10, 181, 0, 168, 42, 16, 40, 188, 10, 181, 0, 171]
abbrev dktX4_init_17 : List UInt8 := dkwX4_init_17 ++ dktX4_init_18
def dkwX4_init_16 : List UInt8 := [42, 16, 40, 188, 10, 181, 0, 156, 42, 16, 40, 188, 10, 181, 0, 159, 42, 16, 40, 188, 10, 181, 0, 162]
abbrev dktX4_init_16 : List UInt8 := dkwX4_init_16 ++ dktX4_init_17
def dkwX4_init_15 : List UInt8 := [42, 16, 16, 188, 10, 181, 0, 147, 42, 16, 16, 188, 4, 181, 0, 150, 42, 16, 40, 188, 10, 181, 0, 153]
abbrev dktX4_init_15 : List UInt8 := dkwX4_init_15 ++ dktX4_init_16
def dkwX4_init_14 : List UInt8 := [42, 16, 16, 188, 10, 181, 0, 138, 42, 16, 16, 188, 10, 181, 0, 141, 42, 16, 16, 188, 10, 181, 0, 144]
abbrev dktX4_init_14 : List UInt8 := dkwX4_init_14 ++ dktX4_init_15
def dkwX4_init_13 : List UInt8 := [181, 0, 126, 42, 16, 8, 188, 10, 181, 0, 129, 42, 16, 7, 188, 10, 181, 0, 132, 42, 2, 181, 0, 135]
abbrev dktX4_init_13 : List UInt8 := dkwX4_init_13 ++ dktX4_init_14
def dkwX4_init_12 : List UInt8 := [181, 0, 117, 42, 16, 8, 188, 10, 181, 0, 120, 42, 16, 8, 188, 10, 181, 0, 123, 42, 16, 8, 188, 10]
abbrev dktX4_init_12 : List UInt8 := dkwX4_init_12 ++ dktX4_init_13
def dkwX4_init_11 : List UInt8 := [181, 0, 108, 42, 7, 188, 10, 181, 0, 111, 42, 16, 7, 188, 10, 181, 0, 114, 42, 16, 8, 188, 10]
abbrev dktX4_init_11 : List UInt8 := dkwX4_init_11 ++ dktX4_init_12
def dkwX4_init_10 : List UInt8 := [188, 10, 181, 0, 99, 42, 17, 2, 108, 188, 10, 181, 0, 102, 42, 2, 181, 0, 105, 42, 7, 188, 10]
abbrev dktX4_init_10 : List UInt8 := dkwX4_init_10 ++ dktX4_init_11
def dkwX4_init_9 : List UInt8 := [181, 0, 90, 42, 16, 20, 188, 10, 181, 0, 93, 42, 17, 4, 196, 188, 10, 181, 0, 96, 42, 17, 2, 88]
abbrev dktX4_init_9 : List UInt8 := dkwX4_init_9 ++ dktX4_init_10
def dkwX4_init_8 : List UInt8 := [181, 0, 81, 42, 16, 21, 188, 10, 181, 0, 84, 42, 16, 20, 188, 10, 181, 0, 87, 42, 16, 20, 188, 10]
abbrev dktX4_init_8 : List UInt8 := dkwX4_init_8 ++ dktX4_init_9
def dkwX4_init_7 : List UInt8 := [42, 16, 40, 188, 10, 181, 0, 75, 42, 17, 9, 136, 188, 10, 181, 0, 78, 42, 16, 20, 188, 10]
abbrev dktX4_init_7 : List UInt8 := dkwX4_init_7 ++ dktX4_init_8
def dkwX4_init_6 : List UInt8 := [42, 16, 8, 188, 10, 181, 0, 66, 42, 16, 40, 188, 10, 181, 0, 69, 42, 16, 42, 188, 10, 181, 0, 72]
abbrev dktX4_init_6 : List UInt8 := dkwX4_init_6 ++ dktX4_init_7
def dkwX4_init_5 : List UInt8 := [181, 0, 54, 42, 5, 188, 10, 181, 0, 57, 42, 5, 188, 10, 181, 0, 60, 42, 5, 188, 10, 181, 0, 63]
abbrev dktX4_init_5 : List UInt8 := dkwX4_init_5 ++ dktX4_init_6
def dkwX4_init_4 : List UInt8 := [181, 0, 44, 42, 16, 12, 188, 10, 181, 0, 47, 42, 16, 12, 188, 4, 181, 0, 50, 42, 16, 12, 188, 4]
abbrev dktX4_init_4 : List UInt8 := dkwX4_init_4 ++ dktX4_init_5
def dkwX4_init_3 : List UInt8 := [181, 0, 35, 42, 16, 12, 188, 10, 181, 0, 38, 42, 16, 12, 188, 10, 181, 0, 41, 42, 16, 12, 188, 10]
abbrev dktX4_init_3 : List UInt8 := dkwX4_init_3 ++ dktX4_init_4
def dkwX4_init_2 : List UInt8 := [181, 0, 26, 42, 16, 12, 188, 10, 181, 0, 29, 42, 16, 12, 188, 10, 181, 0, 32, 42, 16, 12, 188, 10]
abbrev dktX4_init_2 : List UInt8 := dkwX4_init_2 ++ dktX4_init_3
def dkwX4_init_1 : List UInt8 := [181, 0, 16, 42, 16, 6, 188, 10, 181, 0, 20, 42, 16, 12, 188, 10, 181, 0, 23, 42, 16, 12, 188, 10]
abbrev dktX4_init_1 : List UInt8 := dkwX4_init_1 ++ dktX4_init_2
def dkwX4_init_0 : List UInt8 := [42, 183, 0, 1, 42, 17, 1, 44, 181, 0, 7, 42, 16, 20, 181, 0, 13, 42, 16, 6, 188, 10]
abbrev dktX4_init_0 : List UInt8 := dkwX4_init_0 ++ dktX4_init_1
theorem dksX4_init_0 : cX4_init.data.toList.drop 0 = dktX4_init_0 := by decide +kernel
theorem dksX4_init_1 : cX4_init.data.toList.drop 22 = dktX4_init_1 := dk_seg dksX4_init_0 22 rfl rfl
theorem dksX4_init_2 : cX4_init.data.toList.drop 46 = dktX4_init_2 := dk_seg dksX4_init_1 24 rfl rfl
theorem dksX4_init_3 : cX4_init.data.toList.drop 70 = dktX4_init_3 := dk_seg dksX4_init_2 24 rfl rfl
theorem dksX4_init_4 : cX4_init.data.toList.drop 94 = dktX4_init_4 := dk_seg dksX4_init_3 24 rfl rfl
theorem dksX4_init_5 : cX4_init.data.toList.drop 118 = dktX4_init_5 := dk_seg dksX4_init_4 24 rfl rfl
theorem dksX4_init_6 : cX4_init.data.toList.drop 142 = dktX4_init_6 := dk_seg dksX4_init_5 24 rfl rfl
theorem dksX4_init_7 : cX4_init.data.toList.drop 166 = dktX4_init_7 := dk_seg dksX4_init_6 24 rfl rfl
theorem dksX4_init_8 : cX4_init.data.toList.drop 188 = dktX4_init_8 := dk_seg dksX4_init_7 22 rfl rfl
theorem dksX4_init_9 : cX4_init.data.toList.drop 212 = dktX4_init_9 := dk_seg dksX4_init_8 24 rfl rfl
theorem dksX4_init_10 : cX4_init.data.toList.drop 236 = dktX4_init_10 := dk_seg dksX4_init_9 24 rfl rfl
theorem dksX4_init_11 : cX4_init.data.toList.drop 259 = dktX4_init_11 := dk_seg dksX4_init_10 23 rfl rfl
theorem dksX4_init_12 : cX4_init.data.toList.drop 282 = dktX4_init_12 := dk_seg dksX4_init_11 23 rfl rfl
theorem dksX4_init_13 : cX4_init.data.toList.drop 306 = dktX4_init_13 := dk_seg dksX4_init_12 24 rfl rfl
theorem dksX4_init_14 : cX4_init.data.toList.drop 330 = dktX4_init_14 := dk_seg dksX4_init_13 24 rfl rfl
theorem dksX4_init_15 : cX4_init.data.toList.drop 354 = dktX4_init_15 := dk_seg dksX4_init_14 24 rfl rfl
theorem dksX4_init_16 : cX4_init.data.toList.drop 378 = dktX4_init_16 := dk_seg dksX4_init_15 24 rfl rfl
theorem dksX4_init_17 : cX4_init.data.toList.drop 402 = dktX4_init_17 := dk_seg dksX4_init_16 24 rfl rfl
theorem dksX4_init_18 : cX4_init.data.toList.drop 426 = dktX4_init_18 := dk_seg dksX4_init_17 24 rfl rfl
theorem dksX4_init_19 : cX4_init.data.toList.drop 448 = dktX4_init_19 := dk_seg dksX4_init_18 22 rfl rfl
theorem dksX4_init_20 : cX4_init.data.toList.drop 470 = dktX4_init_20 := dk_seg dksX4_init_19 22 rfl rfl
theorem dksX4_init_21 : cX4_init.data.toList.drop 494 = dktX4_init_21 := dk_seg dksX4_init_20 24 rfl rfl
theorem dksX4_init_22 : cX4_init.data.toList.drop 518 = dktX4_init_22 := dk_seg dksX4_init_21 24 rfl rfl
theorem dksX4_init_23 : cX4_init.data.toList.drop 542 = dktX4_init_23 := dk_seg dksX4_init_22 24 rfl rfl
theorem dksX4_init_24 : cX4_init.data.toList.drop 566 = dktX4_init_24 := dk_seg dksX4_init_23 24 rfl rfl
theorem dksX4_init_25 : cX4_init.data.toList.drop 590 = dktX4_init_25 := dk_seg dksX4_init_24 24 rfl rfl
theorem dksX4_init_26 : cX4_init.data.toList.drop 614 = dktX4_init_26 := dk_seg dksX4_init_25 24 rfl rfl
theorem dX4_init_0 : decode cX4_init 0 = .ok (.aload_n 0, 1) := dk_42 (dk_at dksX4_init_0 0 rfl rfl)
theorem dX4_init_1 : decode cX4_init 1 = .ok (.invokespecial 1, 3) := dk_183 0 1 (dk_at dksX4_init_0 1 rfl rfl)
theorem dX4_init_4 : decode cX4_init 4 = .ok (.aload_n 0, 1) := dk_42 (dk_at dksX4_init_0 4 rfl rfl)
theorem dX4_init_5 : decode cX4_init 5 = .ok (.sipush 300, 3) := dk_17 1 44 (dk_at dksX4_init_0 5 rfl rfl)
theorem dX4_init_8 : decode cX4_init 8 = .ok (.putfield 7, 3) := dk_181 0 7 (dk_at dksX4_init_0 8 rfl rfl)
theorem dX4_init_11 : decode cX4_init 11 = .ok (.aload_n 0, 1) := dk_42 (dk_at dksX4_init_0 11 rfl rfl)
theorem dX4_init_12 : decode cX4_init 12 = .ok (.bipush 20, 2) := dk_16 20 (dk_at dksX4_init_0 12 rfl rfl)
theorem dX4_init_14 : decode cX4_init 14 = .ok (.putfield 13, 3) := dk_181 0 13 (dk_at dksX4_init_0 14 rfl rfl)
theorem dX4_init_17 : decode cX4_init 17 = .ok (.aload_n 0, 1) := dk_42 (dk_at dksX4_init_0 17 rfl rfl)
theorem dX4_init_18 : decode cX4_init 18 = .ok (.bipush 6, 2) := dk_16 6 (dk_at dksX4_init_0 18 rfl rfl)
theorem dX4_init_20 : decode cX4_init 20 = .ok (.newarray .int, 2) := dk_188_10 (dk_at dksX4_init_0 20 rfl rfl)
theorem dX4_init_22 : decode cX4_init 22 = .ok (.putfield 16, 3) := dk_181 0 16 (dk_at dksX4_init_1 0 rfl rfl)
theorem dX4_init_25 : decode cX4_init 25 = .ok (.aload_n 0, 1) := dk_42 (dk_at dksX4_init_1 3 rfl rfl)
theorem dX4_init_26 : decode cX4_init 26 = .ok (.bipush 6, 2) := dk_16 6 (dk_at dksX4_init_1 4 rfl rfl)
theorem dX4_init_28 : decode cX4_init 28 = .ok (.newarray .int, 2) := dk_188_10 (dk_at dksX4_init_1 6 rfl rfl)
theorem dX4_init_30 : decode cX4_init 30 = .ok (.putfield 20, 3) := dk_181 0 20 (dk_at dksX4_init_1 8 rfl rfl)
theorem dX4_init_33 : decode cX4_init 33 = .ok (.aload_n 0, 1) := dk_42 (dk_at dksX4_init_1 11 rfl rfl)
theorem dX4_init_34 : decode cX4_init 34 = .ok (.bipush 12, 2) := dk_16 12 (dk_at dksX4_init_1 12 rfl rfl)
theorem dX4_init_36 : decode cX4_init 36 = .ok (.newarray .int, 2) := dk_188_10 (dk_at dksX4_init_1 14 rfl rfl)
theorem dX4_init_38 : decode cX4_init 38 = .ok (.putfield 23, 3) := dk_181 0 23 (dk_at dksX4_init_1 16 rfl rfl)
theorem dX4_init_41 : decode cX4_init 41 = .ok (.aload_n 0, 1) := dk_42 (dk_at dksX4_init_1 19 rfl rfl)
theorem dX4_init_42 : decode cX4_init 42 = .ok (.bipush 12, 2) := dk_16 12 (dk_at dksX4_init_1 20 rfl rfl)
theorem dX4_init_44 : decode cX4_init 44 = .ok (.newarray .int, 2) := dk_188_10 (dk_at dksX4_init_1 22 rfl rfl)
theorem dX4_init_46 : decode cX4_init 46 = .ok (.putfield 26, 3) := dk_181 0 26 (dk_at dksX4_init_2 0 rfl rfl)
theorem dX4_init_49 : decode cX4_init 49 = .ok (.aload_n 0, 1) := dk_42 (dk_at dksX4_init_2 3 rfl rfl)
theorem dX4_init_50 : decode cX4_init 50 = .ok (.bipush 12, 2) := dk_16 12 (dk_at dksX4_init_2 4 rfl rfl)
theorem dX4_init_52 : decode cX4_init 52 = .ok (.newarray .int, 2) := dk_188_10 (dk_at dksX4_init_2 6 rfl rfl)
theorem dX4_init_54 : decode cX4_init 54 = .ok (.putfield 29, 3) := dk_181 0 29 (dk_at dksX4_init_2 8 rfl rfl)
theorem dX4_init_57 : decode cX4_init 57 = .ok (.aload_n 0, 1) := dk_42 (dk_at dksX4_init_2 11 rfl rfl)
theorem dX4_init_58 : decode cX4_init 58 = .ok (.bipush 12, 2) := dk_16 12 (dk_at dksX4_init_2 12 rfl rfl)
theorem dX4_init_60 : decode cX4_init 60 = .ok (.newarray .int, 2) := dk_188_10 (dk_at dksX4_init_2 14 rfl rfl)
theorem dX4_init_62 : decode cX4_init 62 = .ok (.putfield 32, 3) := dk_181 0 32 (dk_at dksX4_init_2 16 rfl rfl)
theorem dX4_init_65 : decode cX4_init 65 = .ok (.aload_n 0, 1) := dk_42 (dk_at dksX4_init_2 19 rfl rfl)
theorem dX4_init_66 : decode cX4_init 66 = .ok (.bipush 12, 2) := dk_16 12 (dk_at dksX4_init_2 20 rfl rfl)
theorem dX4_init_68 : decode cX4_init 68 = .ok (.newarray .int, 2) := dk_188_10 (dk_at dksX4_init_2 22 rfl rfl)
theorem dX4_init_70 : decode cX4_init 70 = .ok (.putfield 35, 3) := dk_181 0 35 (dk_at dksX4_init_3 0 rfl rfl)
theorem dX4_init_73 : decode cX4_init 73 = .ok (.aload_n 0, 1) := dk_42 (dk_at dksX4_init_3 3 rfl rfl)
theorem dX4_init_74 : decode cX4_init 74 = .ok (.bipush 12, 2) := dk_16 12 (dk_at dksX4_init_3 4 rfl rfl)
theorem dX4_init_76 : decode cX4_init 76 = .ok (.newarray .int, 2) := dk_188_10 (dk_at dksX4_init_3 6 rfl rfl)
theorem dX4_init_78 : decode cX4_init 78 = .ok (.putfield 38, 3) := dk_181 0 38 (dk_at dksX4_init_3 8 rfl rfl)
theorem dX4_init_81 : decode cX4_init 81 = .ok (.aload_n 0, 1) := dk_42 (dk_at dksX4_init_3 11 rfl rfl)
theorem dX4_init_82 : decode cX4_init 82 = .ok (.bipush 12, 2) := dk_16 12 (dk_at dksX4_init_3 12 rfl rfl)
theorem dX4_init_84 : decode cX4_init 84 = .ok (.newarray .int, 2) := dk_188_10 (dk_at dksX4_init_3 14 rfl rfl)
theorem dX4_init_86 : decode cX4_init 86 = .ok (.putfield 41, 3) := dk_181 0 41 (dk_at dksX4_init_3 16 rfl rfl)
theorem dX4_init_89 : decode cX4_init 89 = .ok (.aload_n 0, 1) := dk_42 (dk_at dksX4_init_3 19 rfl rfl)
theorem dX4_init_90 : decode cX4_init 90 = .ok (.bipush 12, 2) := dk_16 12 (dk_at dksX4_init_3 20 rfl rfl)
theorem dX4_init_92 : decode cX4_init 92 = .ok (.newarray .int, 2) := dk_188_10 (dk_at dksX4_init_3 22 rfl rfl)
theorem dX4_init_94 : decode cX4_init 94 = .ok (.putfield 44, 3) := dk_181 0 44 (dk_at dksX4_init_4 0 rfl rfl)
theorem dX4_init_97 : decode cX4_init 97 = .ok (.aload_n 0, 1) := dk_42 (dk_at dksX4_init_4 3 rfl rfl)
theorem dX4_init_98 : decode cX4_init 98 = .ok (.bipush 12, 2) := dk_16 12 (dk_at dksX4_init_4 4 rfl rfl)
theorem dX4_init_100 : decode cX4_init 100 = .ok (.newarray .int, 2) := dk_188_10 (dk_at dksX4_init_4 6 rfl rfl)
theorem dX4_init_102 : decode cX4_init 102 = .ok (.putfield 47, 3) := dk_181 0 47 (dk_at dksX4_init_4 8 rfl rfl)
theorem dX4_init_105 : decode cX4_init 105 = .ok (.aload_n 0, 1) := dk_42 (dk_at dksX4_init_4 11 rfl rfl)
theorem dX4_init_106 : decode cX4_init 106 = .ok (.bipush 12, 2) := dk_16 12 (dk_at dksX4_init_4 12 rfl rfl)
theorem dX4_init_108 : decode cX4_init 108 = .ok (.newarray .boolean, 2) := dk_188_4 (dk_at dksX4_init_4 14 rfl rfl)
theorem dX4_init_110 : decode cX4_init 110 = .ok (.putfield 50, 3) := dk_181 0 50 (dk_at dksX4_init_4 16 rfl rfl)
theorem dX4_init_113 : decode cX4_init 113 = .ok (.aload_n 0, 1) := dk_42 (dk_at dksX4_init_4 19 rfl rfl)
theorem dX4_init_114 : decode cX4_init 114 = .ok (.bipush 12, 2) := dk_16 12 (dk_at dksX4_init_4 20 rfl rfl)
theorem dX4_init_116 : decode cX4_init 116 = .ok (.newarray .boolean, 2) := dk_188_4 (dk_at dksX4_init_4 22 rfl rfl)
theorem dX4_init_118 : decode cX4_init 118 = .ok (.putfield 54, 3) := dk_181 0 54 (dk_at dksX4_init_5 0 rfl rfl)
theorem dX4_init_121 : decode cX4_init 121 = .ok (.aload_n 0, 1) := dk_42 (dk_at dksX4_init_5 3 rfl rfl)
theorem dX4_init_122 : decode cX4_init 122 = .ok (.iconst 2, 1) := dk_5 (dk_at dksX4_init_5 4 rfl rfl)
theorem dX4_init_123 : decode cX4_init 123 = .ok (.newarray .int, 2) := dk_188_10 (dk_at dksX4_init_5 5 rfl rfl)
theorem dX4_init_125 : decode cX4_init 125 = .ok (.putfield 57, 3) := dk_181 0 57 (dk_at dksX4_init_5 7 rfl rfl)
theorem dX4_init_128 : decode cX4_init 128 = .ok (.aload_n 0, 1) := dk_42 (dk_at dksX4_init_5 10 rfl rfl)
theorem dX4_init_129 : decode cX4_init 129 = .ok (.iconst 2, 1) := dk_5 (dk_at dksX4_init_5 11 rfl rfl)
theorem dX4_init_130 : decode cX4_init 130 = .ok (.newarray .int, 2) := dk_188_10 (dk_at dksX4_init_5 12 rfl rfl)
theorem dX4_init_132 : decode cX4_init 132 = .ok (.putfield 60, 3) := dk_181 0 60 (dk_at dksX4_init_5 14 rfl rfl)
theorem dX4_init_135 : decode cX4_init 135 = .ok (.aload_n 0, 1) := dk_42 (dk_at dksX4_init_5 17 rfl rfl)
theorem dX4_init_136 : decode cX4_init 136 = .ok (.iconst 2, 1) := dk_5 (dk_at dksX4_init_5 18 rfl rfl)
theorem dX4_init_137 : decode cX4_init 137 = .ok (.newarray .int, 2) := dk_188_10 (dk_at dksX4_init_5 19 rfl rfl)
theorem dX4_init_139 : decode cX4_init 139 = .ok (.putfield 63, 3) := dk_181 0 63 (dk_at dksX4_init_5 21 rfl rfl)
theorem dX4_init_142 : decode cX4_init 142 = .ok (.aload_n 0, 1) := dk_42 (dk_at dksX4_init_6 0 rfl rfl)
theorem dX4_init_143 : decode cX4_init 143 = .ok (.bipush 8, 2) := dk_16 8 (dk_at dksX4_init_6 1 rfl rfl)
theorem dX4_init_145 : decode cX4_init 145 = .ok (.newarray .int, 2) := dk_188_10 (dk_at dksX4_init_6 3 rfl rfl)
theorem dX4_init_147 : decode cX4_init 147 = .ok (.putfield 66, 3) := dk_181 0 66 (dk_at dksX4_init_6 5 rfl rfl)
theorem dX4_init_150 : decode cX4_init 150 = .ok (.aload_n 0, 1) := dk_42 (dk_at dksX4_init_6 8 rfl rfl)
theorem dX4_init_151 : decode cX4_init 151 = .ok (.bipush 40, 2) := dk_16 40 (dk_at dksX4_init_6 9 rfl rfl)
theorem dX4_init_153 : decode cX4_init 153 = .ok (.newarray .int, 2) := dk_188_10 (dk_at dksX4_init_6 11 rfl rfl)
theorem dX4_init_155 : decode cX4_init 155 = .ok (.putfield 69, 3) := dk_181 0 69 (dk_at dksX4_init_6 13 rfl rfl)
theorem dX4_init_158 : decode cX4_init 158 = .ok (.aload_n 0, 1) := dk_42 (dk_at dksX4_init_6 16 rfl rfl)
theorem dX4_init_159 : decode cX4_init 159 = .ok (.bipush 42, 2) := dk_16 42 (dk_at dksX4_init_6 17 rfl rfl)
theorem dX4_init_161 : decode cX4_init 161 = .ok (.newarray .int, 2) := dk_188_10 (dk_at dksX4_init_6 19 rfl rfl)
theorem dX4_init_163 : decode cX4_init 163 = .ok (.putfield 72, 3) := dk_181 0 72 (dk_at dksX4_init_6 21 rfl rfl)
theorem dX4_init_166 : decode cX4_init 166 = .ok (.aload_n 0, 1) := dk_42 (dk_at dksX4_init_7 0 rfl rfl)
theorem dX4_init_167 : decode cX4_init 167 = .ok (.bipush 40, 2) := dk_16 40 (dk_at dksX4_init_7 1 rfl rfl)
theorem dX4_init_169 : decode cX4_init 169 = .ok (.newarray .int, 2) := dk_188_10 (dk_at dksX4_init_7 3 rfl rfl)
theorem dX4_init_171 : decode cX4_init 171 = .ok (.putfield 75, 3) := dk_181 0 75 (dk_at dksX4_init_7 5 rfl rfl)
theorem dX4_init_174 : decode cX4_init 174 = .ok (.aload_n 0, 1) := dk_42 (dk_at dksX4_init_7 8 rfl rfl)
theorem dX4_init_175 : decode cX4_init 175 = .ok (.sipush 2440, 3) := dk_17 9 136 (dk_at dksX4_init_7 9 rfl rfl)
theorem dX4_init_178 : decode cX4_init 178 = .ok (.newarray .int, 2) := dk_188_10 (dk_at dksX4_init_7 12 rfl rfl)
theorem dX4_init_180 : decode cX4_init 180 = .ok (.putfield 78, 3) := dk_181 0 78 (dk_at dksX4_init_7 14 rfl rfl)
theorem dX4_init_183 : decode cX4_init 183 = .ok (.aload_n 0, 1) := dk_42 (dk_at dksX4_init_7 17 rfl rfl)
theorem dX4_init_184 : decode cX4_init 184 = .ok (.bipush 20, 2) := dk_16 20 (dk_at dksX4_init_7 18 rfl rfl)
theorem dX4_init_186 : decode cX4_init 186 = .ok (.newarray .int, 2) := dk_188_10 (dk_at dksX4_init_7 20 rfl rfl)
theorem dX4_init_188 : decode cX4_init 188 = .ok (.putfield 81, 3) := dk_181 0 81 (dk_at dksX4_init_8 0 rfl rfl)
theorem dX4_init_191 : decode cX4_init 191 = .ok (.aload_n 0, 1) := dk_42 (dk_at dksX4_init_8 3 rfl rfl)
theorem dX4_init_192 : decode cX4_init 192 = .ok (.bipush 21, 2) := dk_16 21 (dk_at dksX4_init_8 4 rfl rfl)
theorem dX4_init_194 : decode cX4_init 194 = .ok (.newarray .int, 2) := dk_188_10 (dk_at dksX4_init_8 6 rfl rfl)
theorem dX4_init_196 : decode cX4_init 196 = .ok (.putfield 84, 3) := dk_181 0 84 (dk_at dksX4_init_8 8 rfl rfl)
theorem dX4_init_199 : decode cX4_init 199 = .ok (.aload_n 0, 1) := dk_42 (dk_at dksX4_init_8 11 rfl rfl)
theorem dX4_init_200 : decode cX4_init 200 = .ok (.bipush 20, 2) := dk_16 20 (dk_at dksX4_init_8 12 rfl rfl)
theorem dX4_init_202 : decode cX4_init 202 = .ok (.newarray .int, 2) := dk_188_10 (dk_at dksX4_init_8 14 rfl rfl)
theorem dX4_init_204 : decode cX4_init 204 = .ok (.putfield 87, 3) := dk_181 0 87 (dk_at dksX4_init_8 16 rfl rfl)
theorem dX4_init_207 : decode cX4_init 207 = .ok (.aload_n 0, 1) := dk_42 (dk_at dksX4_init_8 19 rfl rfl)
theorem dX4_init_208 : decode cX4_init 208 = .ok (.bipush 20, 2) := dk_16 20 (dk_at dksX4_init_8 20 rfl rfl)
theorem dX4_init_210 : decode cX4_init 210 = .ok (.newarray .int, 2) := dk_188_10 (dk_at dksX4_init_8 22 rfl rfl)
theorem dX4_init_212 : decode cX4_init 212 = .ok (.putfield 90, 3) := dk_181 0 90 (dk_at dksX4_init_9 0 rfl rfl)
theorem dX4_init_215 : decode cX4_init 215 = .ok (.aload_n 0, 1) := dk_42 (dk_at dksX4_init_9 3 rfl rfl)
theorem dX4_init_216 : decode cX4_init 216 = .ok (.bipush 20, 2) := dk_16 20 (dk_at dksX4_init_9 4 rfl rfl)
theorem dX4_init_218 : decode cX4_init 218 = .ok (.newarray .int, 2) := dk_188_10 (dk_at dksX4_init_9 6 rfl rfl)
theorem dX4_init_220 : decode cX4_init 220 = .ok (.putfield 93, 3) := dk_181 0 93 (dk_at dksX4_init_9 8 rfl rfl)
theorem dX4_init_223 : decode cX4_init 223 = .ok (.aload_n 0, 1) := dk_42 (dk_at dksX4_init_9 11 rfl rfl)
theorem dX4_init_224 : decode cX4_init 224 = .ok (.sipush 1220, 3) := dk_17 4 196 (dk_at dksX4_init_9 12 rfl rfl)
theorem dX4_init_227 : decode cX4_init 227 = .ok (.newarray .int, 2) := dk_188_10 (dk_at dksX4_init_9 15 rfl rfl)
theorem dX4_init_229 : decode cX4_init 229 = .ok (.putfield 96, 3) := dk_181 0 96 (dk_at dksX4_init_9 17 rfl rfl)
theorem dX4_init_232 : decode cX4_init 232 = .ok (.aload_n 0, 1) := dk_42 (dk_at dksX4_init_9 20 rfl rfl)
theorem dX4_init_233 : decode cX4_init 233 = .ok (.sipush 600, 3) := dk_17 2 88 (dk_at dksX4_init_9 21 rfl rfl)
theorem dX4_init_236 : decode cX4_init 236 = .ok (.newarray .int, 2) := dk_188_10 (dk_at dksX4_init_10 0 rfl rfl)
theorem dX4_init_238 : decode cX4_init 238 = .ok (.putfield 99, 3) := dk_181 0 99 (dk_at dksX4_init_10 2 rfl rfl)
theorem dX4_init_241 : decode cX4_init 241 = .ok (.aload_n 0, 1) := dk_42 (dk_at dksX4_init_10 5 rfl rfl)
theorem dX4_init_242 : decode cX4_init 242 = .ok (.sipush 620, 3) := dk_17 2 108 (dk_at dksX4_init_10 6 rfl rfl)
theorem dX4_init_245 : decode cX4_init 245 = .ok (.newarray .int, 2) := dk_188_10 (dk_at dksX4_init_10 9 rfl rfl)
theorem dX4_init_247 : decode cX4_init 247 = .ok (.putfield 102, 3) := dk_181 0 102 (dk_at dksX4_init_10 11 rfl rfl)
theorem dX4_init_250 : decode cX4_init 250 = .ok (.aload_n 0, 1) := dk_42 (dk_at dksX4_init_10 14 rfl rfl)
theorem dX4_init_251 : decode cX4_init 251 = .ok (.iconst (-1), 1) := dk_2 (dk_at dksX4_init_10 15 rfl rfl)
theorem dX4_init_252 : decode cX4_init 252 = .ok (.putfield 105, 3) := dk_181 0 105 (dk_at dksX4_init_10 16 rfl rfl)
theorem dX4_init_255 : decode cX4_init 255 = .ok (.aload_n 0, 1) := dk_42 (dk_at dksX4_init_10 19 rfl rfl)
theorem dX4_init_256 : decode cX4_init 256 = .ok (.iconst 4, 1) := dk_7 (dk_at dksX4_init_10 20 rfl rfl)
theorem dX4_init_257 : decode cX4_init 257 = .ok (.newarray .int, 2) := dk_188_10 (dk_at dksX4_init_10 21 rfl rfl)
theorem dX4_init_259 : decode cX4_init 259 = .ok (.putfield 108, 3) := dk_181 0 108 (dk_at dksX4_init_11 0 rfl rfl)
theorem dX4_init_262 : decode cX4_init 262 = .ok (.aload_n 0, 1) := dk_42 (dk_at dksX4_init_11 3 rfl rfl)
theorem dX4_init_263 : decode cX4_init 263 = .ok (.iconst 4, 1) := dk_7 (dk_at dksX4_init_11 4 rfl rfl)
theorem dX4_init_264 : decode cX4_init 264 = .ok (.newarray .int, 2) := dk_188_10 (dk_at dksX4_init_11 5 rfl rfl)
theorem dX4_init_266 : decode cX4_init 266 = .ok (.putfield 111, 3) := dk_181 0 111 (dk_at dksX4_init_11 7 rfl rfl)
theorem dX4_init_269 : decode cX4_init 269 = .ok (.aload_n 0, 1) := dk_42 (dk_at dksX4_init_11 10 rfl rfl)
theorem dX4_init_270 : decode cX4_init 270 = .ok (.bipush 7, 2) := dk_16 7 (dk_at dksX4_init_11 11 rfl rfl)
theorem dX4_init_272 : decode cX4_init 272 = .ok (.newarray .int, 2) := dk_188_10 (dk_at dksX4_init_11 13 rfl rfl)
theorem dX4_init_274 : decode cX4_init 274 = .ok (.putfield 114, 3) := dk_181 0 114 (dk_at dksX4_init_11 15 rfl rfl)
theorem dX4_init_277 : decode cX4_init 277 = .ok (.aload_n 0, 1) := dk_42 (dk_at dksX4_init_11 18 rfl rfl)
theorem dX4_init_278 : decode cX4_init 278 = .ok (.bipush 8, 2) := dk_16 8 (dk_at dksX4_init_11 19 rfl rfl)
theorem dX4_init_280 : decode cX4_init 280 = .ok (.newarray .int, 2) := dk_188_10 (dk_at dksX4_init_11 21 rfl rfl)
theorem dX4_init_282 : decode cX4_init 282 = .ok (.putfield 117, 3) := dk_181 0 117 (dk_at dksX4_init_12 0 rfl rfl)
theorem dX4_init_285 : decode cX4_init 285 = .ok (.aload_n 0, 1) := dk_42 (dk_at dksX4_init_12 3 rfl rfl)
theorem dX4_init_286 : decode cX4_init 286 = .ok (.bipush 8, 2) := dk_16 8 (dk_at dksX4_init_12 4 rfl rfl)
theorem dX4_init_288 : decode cX4_init 288 = .ok (.newarray .int, 2) := dk_188_10 (dk_at dksX4_init_12 6 rfl rfl)
theorem dX4_init_290 : decode cX4_init 290 = .ok (.putfield 120, 3) := dk_181 0 120 (dk_at dksX4_init_12 8 rfl rfl)
theorem dX4_init_293 : decode cX4_init 293 = .ok (.aload_n 0, 1) := dk_42 (dk_at dksX4_init_12 11 rfl rfl)
theorem dX4_init_294 : decode cX4_init 294 = .ok (.bipush 8, 2) := dk_16 8 (dk_at dksX4_init_12 12 rfl rfl)
theorem dX4_init_296 : decode cX4_init 296 = .ok (.newarray .int, 2) := dk_188_10 (dk_at dksX4_init_12 14 rfl rfl)
theorem dX4_init_298 : decode cX4_init 298 = .ok (.putfield 123, 3) := dk_181 0 123 (dk_at dksX4_init_12 16 rfl rfl)
theorem dX4_init_301 : decode cX4_init 301 = .ok (.aload_n 0, 1) := dk_42 (dk_at dksX4_init_12 19 rfl rfl)
theorem dX4_init_302 : decode cX4_init 302 = .ok (.bipush 8, 2) := dk_16 8 (dk_at dksX4_init_12 20 rfl rfl)
theorem dX4_init_304 : decode cX4_init 304 = .ok (.newarray .int, 2) := dk_188_10 (dk_at dksX4_init_12 22 rfl rfl)
theorem dX4_init_306 : decode cX4_init 306 = .ok (.putfield 126, 3) := dk_181 0 126 (dk_at dksX4_init_13 0 rfl rfl)
theorem dX4_init_309 : decode cX4_init 309 = .ok (.aload_n 0, 1) := dk_42 (dk_at dksX4_init_13 3 rfl rfl)
theorem dX4_init_310 : decode cX4_init 310 = .ok (.bipush 8, 2) := dk_16 8 (dk_at dksX4_init_13 4 rfl rfl)
theorem dX4_init_312 : decode cX4_init 312 = .ok (.newarray .int, 2) := dk_188_10 (dk_at dksX4_init_13 6 rfl rfl)
theorem dX4_init_314 : decode cX4_init 314 = .ok (.putfield 129, 3) := dk_181 0 129 (dk_at dksX4_init_13 8 rfl rfl)
theorem dX4_init_317 : decode cX4_init 317 = .ok (.aload_n 0, 1) := dk_42 (dk_at dksX4_init_13 11 rfl rfl)
theorem dX4_init_318 : decode cX4_init 318 = .ok (.bipush 7, 2) := dk_16 7 (dk_at dksX4_init_13 12 rfl rfl)
theorem dX4_init_320 : decode cX4_init 320 = .ok (.newarray .int, 2) := dk_188_10 (dk_at dksX4_init_13 14 rfl rfl)
theorem dX4_init_322 : decode cX4_init 322 = .ok (.putfield 132, 3) := dk_181 0 132 (dk_at dksX4_init_13 16 rfl rfl)
theorem dX4_init_325 : decode cX4_init 325 = .ok (.aload_n 0, 1) := dk_42 (dk_at dksX4_init_13 19 rfl rfl)
theorem dX4_init_326 : decode cX4_init 326 = .ok (.iconst (-1), 1) := dk_2 (dk_at dksX4_init_13 20 rfl rfl)
theorem dX4_init_327 : decode cX4_init 327 = .ok (.putfield 135, 3) := dk_181 0 135 (dk_at dksX4_init_13 21 rfl rfl)
theorem dX4_init_330 : decode cX4_init 330 = .ok (.aload_n 0, 1) := dk_42 (dk_at dksX4_init_14 0 rfl rfl)
theorem dX4_init_331 : decode cX4_init 331 = .ok (.bipush 16, 2) := dk_16 16 (dk_at dksX4_init_14 1 rfl rfl)
theorem dX4_init_333 : decode cX4_init 333 = .ok (.newarray .int, 2) := dk_188_10 (dk_at dksX4_init_14 3 rfl rfl)
theorem dX4_init_335 : decode cX4_init 335 = .ok (.putfield 138, 3) := dk_181 0 138 (dk_at dksX4_init_14 5 rfl rfl)
theorem dX4_init_338 : decode cX4_init 338 = .ok (.aload_n 0, 1) := dk_42 (dk_at dksX4_init_14 8 rfl rfl)
theorem dX4_init_339 : decode cX4_init 339 = .ok (.bipush 16, 2) := dk_16 16 (dk_at dksX4_init_14 9 rfl rfl)
theorem dX4_init_341 : decode cX4_init 341 = .ok (.newarray .int, 2) := dk_188_10 (dk_at dksX4_init_14 11 rfl rfl)
theorem dX4_init_343 : decode cX4_init 343 = .ok (.putfield 141, 3) := dk_181 0 141 (dk_at dksX4_init_14 13 rfl rfl)
theorem dX4_init_346 : decode cX4_init 346 = .ok (.aload_n 0, 1) := dk_42 (dk_at dksX4_init_14 16 rfl rfl)
theorem dX4_init_347 : decode cX4_init 347 = .ok (.bipush 16, 2) := dk_16 16 (dk_at dksX4_init_14 17 rfl rfl)
theorem dX4_init_349 : decode cX4_init 349 = .ok (.newarray .int, 2) := dk_188_10 (dk_at dksX4_init_14 19 rfl rfl)
theorem dX4_init_351 : decode cX4_init 351 = .ok (.putfield 144, 3) := dk_181 0 144 (dk_at dksX4_init_14 21 rfl rfl)
theorem dX4_init_354 : decode cX4_init 354 = .ok (.aload_n 0, 1) := dk_42 (dk_at dksX4_init_15 0 rfl rfl)
theorem dX4_init_355 : decode cX4_init 355 = .ok (.bipush 16, 2) := dk_16 16 (dk_at dksX4_init_15 1 rfl rfl)
theorem dX4_init_357 : decode cX4_init 357 = .ok (.newarray .int, 2) := dk_188_10 (dk_at dksX4_init_15 3 rfl rfl)
theorem dX4_init_359 : decode cX4_init 359 = .ok (.putfield 147, 3) := dk_181 0 147 (dk_at dksX4_init_15 5 rfl rfl)
theorem dX4_init_362 : decode cX4_init 362 = .ok (.aload_n 0, 1) := dk_42 (dk_at dksX4_init_15 8 rfl rfl)
theorem dX4_init_363 : decode cX4_init 363 = .ok (.bipush 16, 2) := dk_16 16 (dk_at dksX4_init_15 9 rfl rfl)
theorem dX4_init_365 : decode cX4_init 365 = .ok (.newarray .boolean, 2) := dk_188_4 (dk_at dksX4_init_15 11 rfl rfl)
theorem dX4_init_367 : decode cX4_init 367 = .ok (.putfield 150, 3) := dk_181 0 150 (dk_at dksX4_init_15 13 rfl rfl)
theorem dX4_init_370 : decode cX4_init 370 = .ok (.aload_n 0, 1) := dk_42 (dk_at dksX4_init_15 16 rfl rfl)
theorem dX4_init_371 : decode cX4_init 371 = .ok (.bipush 40, 2) := dk_16 40 (dk_at dksX4_init_15 17 rfl rfl)
theorem dX4_init_373 : decode cX4_init 373 = .ok (.newarray .int, 2) := dk_188_10 (dk_at dksX4_init_15 19 rfl rfl)
theorem dX4_init_375 : decode cX4_init 375 = .ok (.putfield 153, 3) := dk_181 0 153 (dk_at dksX4_init_15 21 rfl rfl)
theorem dX4_init_378 : decode cX4_init 378 = .ok (.aload_n 0, 1) := dk_42 (dk_at dksX4_init_16 0 rfl rfl)
theorem dX4_init_379 : decode cX4_init 379 = .ok (.bipush 40, 2) := dk_16 40 (dk_at dksX4_init_16 1 rfl rfl)
theorem dX4_init_381 : decode cX4_init 381 = .ok (.newarray .int, 2) := dk_188_10 (dk_at dksX4_init_16 3 rfl rfl)
theorem dX4_init_383 : decode cX4_init 383 = .ok (.putfield 156, 3) := dk_181 0 156 (dk_at dksX4_init_16 5 rfl rfl)
theorem dX4_init_386 : decode cX4_init 386 = .ok (.aload_n 0, 1) := dk_42 (dk_at dksX4_init_16 8 rfl rfl)
theorem dX4_init_387 : decode cX4_init 387 = .ok (.bipush 40, 2) := dk_16 40 (dk_at dksX4_init_16 9 rfl rfl)
theorem dX4_init_389 : decode cX4_init 389 = .ok (.newarray .int, 2) := dk_188_10 (dk_at dksX4_init_16 11 rfl rfl)
theorem dX4_init_391 : decode cX4_init 391 = .ok (.putfield 159, 3) := dk_181 0 159 (dk_at dksX4_init_16 13 rfl rfl)
theorem dX4_init_394 : decode cX4_init 394 = .ok (.aload_n 0, 1) := dk_42 (dk_at dksX4_init_16 16 rfl rfl)
theorem dX4_init_395 : decode cX4_init 395 = .ok (.bipush 40, 2) := dk_16 40 (dk_at dksX4_init_16 17 rfl rfl)
theorem dX4_init_397 : decode cX4_init 397 = .ok (.newarray .int, 2) := dk_188_10 (dk_at dksX4_init_16 19 rfl rfl)
theorem dX4_init_399 : decode cX4_init 399 = .ok (.putfield 162, 3) := dk_181 0 162 (dk_at dksX4_init_16 21 rfl rfl)
theorem dX4_init_402 : decode cX4_init 402 = .ok (.aload_n 0, 1) := dk_42 (dk_at dksX4_init_17 0 rfl rfl)
theorem dX4_init_403 : decode cX4_init 403 = .ok (.bipush 40, 2) := dk_16 40 (dk_at dksX4_init_17 1 rfl rfl)
theorem dX4_init_405 : decode cX4_init 405 = .ok (.newarray .int, 2) := dk_188_10 (dk_at dksX4_init_17 3 rfl rfl)
theorem dX4_init_407 : decode cX4_init 407 = .ok (.putfield 165, 3) := dk_181 0 165 (dk_at dksX4_init_17 5 rfl rfl)
theorem dX4_init_410 : decode cX4_init 410 = .ok (.aload_n 0, 1) := dk_42 (dk_at dksX4_init_17 8 rfl rfl)
theorem dX4_init_411 : decode cX4_init 411 = .ok (.bipush 40, 2) := dk_16 40 (dk_at dksX4_init_17 9 rfl rfl)
theorem dX4_init_413 : decode cX4_init 413 = .ok (.newarray .int, 2) := dk_188_10 (dk_at dksX4_init_17 11 rfl rfl)
theorem dX4_init_415 : decode cX4_init 415 = .ok (.putfield 168, 3) := dk_181 0 168 (dk_at dksX4_init_17 13 rfl rfl)
theorem dX4_init_418 : decode cX4_init 418 = .ok (.aload_n 0, 1) := dk_42 (dk_at dksX4_init_17 16 rfl rfl)
theorem dX4_init_419 : decode cX4_init 419 = .ok (.bipush 40, 2) := dk_16 40 (dk_at dksX4_init_17 17 rfl rfl)
theorem dX4_init_421 : decode cX4_init 421 = .ok (.newarray .int, 2) := dk_188_10 (dk_at dksX4_init_17 19 rfl rfl)
theorem dX4_init_423 : decode cX4_init 423 = .ok (.putfield 171, 3) := dk_181 0 171 (dk_at dksX4_init_17 21 rfl rfl)
theorem dX4_init_426 : decode cX4_init 426 = .ok (.aload_n 0, 1) := dk_42 (dk_at dksX4_init_18 0 rfl rfl)
theorem dX4_init_427 : decode cX4_init 427 = .ok (.bipush 40, 2) := dk_16 40 (dk_at dksX4_init_18 1 rfl rfl)
theorem dX4_init_429 : decode cX4_init 429 = .ok (.newarray .int, 2) := dk_188_10 (dk_at dksX4_init_18 3 rfl rfl)
theorem dX4_init_431 : decode cX4_init 431 = .ok (.putfield 174, 3) := dk_181 0 174 (dk_at dksX4_init_18 5 rfl rfl)
theorem dX4_init_434 : decode cX4_init 434 = .ok (.aload_n 0, 1) := dk_42 (dk_at dksX4_init_18 8 rfl rfl)
theorem dX4_init_435 : decode cX4_init 435 = .ok (.sipush 480, 3) := dk_17 1 224 (dk_at dksX4_init_18 9 rfl rfl)
theorem dX4_init_438 : decode cX4_init 438 = .ok (.newarray .int, 2) := dk_188_10 (dk_at dksX4_init_18 12 rfl rfl)
theorem dX4_init_440 : decode cX4_init 440 = .ok (.putfield 177, 3) := dk_181 0 177 (dk_at dksX4_init_18 14 rfl rfl)
theorem dX4_init_443 : decode cX4_init 443 = .ok (.aload_n 0, 1) := dk_42 (dk_at dksX4_init_18 17 rfl rfl)
theorem dX4_init_444 : decode cX4_init 444 = .ok (.bipush 40, 2) := dk_16 40 (dk_at dksX4_init_18 18 rfl rfl)
theorem dX4_init_446 : decode cX4_init 446 = .ok (.newarray .int, 2) := dk_188_10 (dk_at dksX4_init_18 20 rfl rfl)
theorem dX4_init_448 : decode cX4_init 448 = .ok (.putfield 180, 3) := dk_181 0 180 (dk_at dksX4_init_19 0 rfl rfl)
theorem dX4_init_451 : decode cX4_init 451 = .ok (.aload_n 0, 1) := dk_42 (dk_at dksX4_init_19 3 rfl rfl)
theorem dX4_init_452 : decode cX4_init 452 = .ok (.bipush 40, 2) := dk_16 40 (dk_at dksX4_init_19 4 rfl rfl)
theorem dX4_init_454 : decode cX4_init 454 = .ok (.newarray .boolean, 2) := dk_188_4 (dk_at dksX4_init_19 6 rfl rfl)
theorem dX4_init_456 : decode cX4_init 456 = .ok (.putfield 183, 3) := dk_181 0 183 (dk_at dksX4_init_19 8 rfl rfl)
theorem dX4_init_459 : decode cX4_init 459 = .ok (.aload_n 0, 1) := dk_42 (dk_at dksX4_init_19 11 rfl rfl)
theorem dX4_init_460 : decode cX4_init 460 = .ok (.iconst 2, 1) := dk_5 (dk_at dksX4_init_19 12 rfl rfl)
theorem dX4_init_461 : decode cX4_init 461 = .ok (.newarray .int, 2) := dk_188_10 (dk_at dksX4_init_19 13 rfl rfl)
theorem dX4_init_463 : decode cX4_init 463 = .ok (.putfield 186, 3) := dk_181 0 186 (dk_at dksX4_init_19 15 rfl rfl)
theorem dX4_init_466 : decode cX4_init 466 = .ok (.aload_n 0, 1) := dk_42 (dk_at dksX4_init_19 18 rfl rfl)
theorem dX4_init_467 : decode cX4_init 467 = .ok (.iconst 4, 1) := dk_7 (dk_at dksX4_init_19 19 rfl rfl)
theorem dX4_init_468 : decode cX4_init 468 = .ok (.newarray .int, 2) := dk_188_10 (dk_at dksX4_init_19 20 rfl rfl)
theorem dX4_init_470 : decode cX4_init 470 = .ok (.putfield 189, 3) := dk_181 0 189 (dk_at dksX4_init_20 0 rfl rfl)
theorem dX4_init_473 : decode cX4_init 473 = .ok (.aload_n 0, 1) := dk_42 (dk_at dksX4_init_20 3 rfl rfl)
theorem dX4_init_474 : decode cX4_init 474 = .ok (.iconst 4, 1) := dk_7 (dk_at dksX4_init_20 4 rfl rfl)
theorem dX4_init_475 : decode cX4_init 475 = .ok (.newarray .int, 2) := dk_188_10 (dk_at dksX4_init_20 5 rfl rfl)
theorem dX4_init_477 : decode cX4_init 477 = .ok (.putfield 192, 3) := dk_181 0 192 (dk_at dksX4_init_20 7 rfl rfl)
theorem dX4_init_480 : decode cX4_init 480 = .ok (.aload_n 0, 1) := dk_42 (dk_at dksX4_init_20 10 rfl rfl)
theorem dX4_init_481 : decode cX4_init 481 = .ok (.iconst 4, 1) := dk_7 (dk_at dksX4_init_20 11 rfl rfl)
theorem dX4_init_482 : decode cX4_init 482 = .ok (.newarray .int, 2) := dk_188_10 (dk_at dksX4_init_20 12 rfl rfl)
theorem dX4_init_484 : decode cX4_init 484 = .ok (.putfield 195, 3) := dk_181 0 195 (dk_at dksX4_init_20 14 rfl rfl)
theorem dX4_init_487 : decode cX4_init 487 = .ok (.aload_n 0, 1) := dk_42 (dk_at dksX4_init_20 17 rfl rfl)
theorem dX4_init_488 : decode cX4_init 488 = .ok (.iconst 4, 1) := dk_7 (dk_at dksX4_init_20 18 rfl rfl)
theorem dX4_init_489 : decode cX4_init 489 = .ok (.newarray .int, 2) := dk_188_10 (dk_at dksX4_init_20 19 rfl rfl)
theorem dX4_init_491 : decode cX4_init 491 = .ok (.putfield 198, 3) := dk_181 0 198 (dk_at dksX4_init_20 21 rfl rfl)
theorem dX4_init_494 : decode cX4_init 494 = .ok (.aload_n 0, 1) := dk_42 (dk_at dksX4_init_21 0 rfl rfl)
theorem dX4_init_495 : decode cX4_init 495 = .ok (.bipush 8, 2) := dk_16 8 (dk_at dksX4_init_21 1 rfl rfl)
theorem dX4_init_497 : decode cX4_init 497 = .ok (.newarray .int, 2) := dk_188_10 (dk_at dksX4_init_21 3 rfl rfl)
theorem dX4_init_499 : decode cX4_init 499 = .ok (.putfield 201, 3) := dk_181 0 201 (dk_at dksX4_init_21 5 rfl rfl)
theorem dX4_init_502 : decode cX4_init 502 = .ok (.aload_n 0, 1) := dk_42 (dk_at dksX4_init_21 8 rfl rfl)
theorem dX4_init_503 : decode cX4_init 503 = .ok (.bipush 8, 2) := dk_16 8 (dk_at dksX4_init_21 9 rfl rfl)
theorem dX4_init_505 : decode cX4_init 505 = .ok (.newarray .int, 2) := dk_188_10 (dk_at dksX4_init_21 11 rfl rfl)
theorem dX4_init_507 : decode cX4_init 507 = .ok (.putfield 204, 3) := dk_181 0 204 (dk_at dksX4_init_21 13 rfl rfl)
theorem dX4_init_510 : decode cX4_init 510 = .ok (.aload_n 0, 1) := dk_42 (dk_at dksX4_init_21 16 rfl rfl)
theorem dX4_init_511 : decode cX4_init 511 = .ok (.bipush 8, 2) := dk_16 8 (dk_at dksX4_init_21 17 rfl rfl)
theorem dX4_init_513 : decode cX4_init 513 = .ok (.newarray .int, 2) := dk_188_10 (dk_at dksX4_init_21 19 rfl rfl)
theorem dX4_init_515 : decode cX4_init 515 = .ok (.putfield 207, 3) := dk_181 0 207 (dk_at dksX4_init_21 21 rfl rfl)
theorem dX4_init_518 : decode cX4_init 518 = .ok (.aload_n 0, 1) := dk_42 (dk_at dksX4_init_22 0 rfl rfl)
theorem dX4_init_519 : decode cX4_init 519 = .ok (.iconst 4, 1) := dk_7 (dk_at dksX4_init_22 1 rfl rfl)
theorem dX4_init_520 : decode cX4_init 520 = .ok (.newarray .int, 2) := dk_188_10 (dk_at dksX4_init_22 2 rfl rfl)
theorem dX4_init_522 : decode cX4_init 522 = .ok (.putfield 210, 3) := dk_181 0 210 (dk_at dksX4_init_22 4 rfl rfl)
theorem dX4_init_525 : decode cX4_init 525 = .ok (.aload_n 0, 1) := dk_42 (dk_at dksX4_init_22 7 rfl rfl)
theorem dX4_init_526 : decode cX4_init 526 = .ok (.bipush 100, 2) := dk_16 100 (dk_at dksX4_init_22 8 rfl rfl)
theorem dX4_init_528 : decode cX4_init 528 = .ok (.newarray .int, 2) := dk_188_10 (dk_at dksX4_init_22 10 rfl rfl)
theorem dX4_init_530 : decode cX4_init 530 = .ok (.putfield 213, 3) := dk_181 0 213 (dk_at dksX4_init_22 12 rfl rfl)
theorem dX4_init_533 : decode cX4_init 533 = .ok (.aload_n 0, 1) := dk_42 (dk_at dksX4_init_22 15 rfl rfl)
theorem dX4_init_534 : decode cX4_init 534 = .ok (.bipush 100, 2) := dk_16 100 (dk_at dksX4_init_22 16 rfl rfl)
theorem dX4_init_536 : decode cX4_init 536 = .ok (.newarray .int, 2) := dk_188_10 (dk_at dksX4_init_22 18 rfl rfl)
theorem dX4_init_538 : decode cX4_init 538 = .ok (.putfield 216, 3) := dk_181 0 216 (dk_at dksX4_init_22 20 rfl rfl)
theorem dX4_init_541 : decode cX4_init 541 = .ok (.aload_n 0, 1) := dk_42 (dk_at dksX4_init_22 23 rfl rfl)
theorem dX4_init_542 : decode cX4_init 542 = .ok (.bipush 100, 2) := dk_16 100 (dk_at dksX4_init_23 0 rfl rfl)
theorem dX4_init_544 : decode cX4_init 544 = .ok (.newarray .int, 2) := dk_188_10 (dk_at dksX4_init_23 2 rfl rfl)
theorem dX4_init_546 : decode cX4_init 546 = .ok (.putfield 219, 3) := dk_181 0 219 (dk_at dksX4_init_23 4 rfl rfl)
theorem dX4_init_549 : decode cX4_init 549 = .ok (.aload_n 0, 1) := dk_42 (dk_at dksX4_init_23 7 rfl rfl)
theorem dX4_init_550 : decode cX4_init 550 = .ok (.bipush 100, 2) := dk_16 100 (dk_at dksX4_init_23 8 rfl rfl)
theorem dX4_init_552 : decode cX4_init 552 = .ok (.newarray .int, 2) := dk_188_10 (dk_at dksX4_init_23 10 rfl rfl)
theorem dX4_init_554 : decode cX4_init 554 = .ok (.putfield 222, 3) := dk_181 0 222 (dk_at dksX4_init_23 12 rfl rfl)
theorem dX4_init_557 : decode cX4_init 557 = .ok (.aload_n 0, 1) := dk_42 (dk_at dksX4_init_23 15 rfl rfl)
theorem dX4_init_558 : decode cX4_init 558 = .ok (.bipush 96, 2) := dk_16 96 (dk_at dksX4_init_23 16 rfl rfl)
theorem dX4_init_560 : decode cX4_init 560 = .ok (.newarray .int, 2) := dk_188_10 (dk_at dksX4_init_23 18 rfl rfl)
theorem dX4_init_562 : decode cX4_init 562 = .ok (.putfield 225, 3) := dk_181 0 225 (dk_at dksX4_init_23 20 rfl rfl)
theorem dX4_init_565 : decode cX4_init 565 = .ok (.aload_n 0, 1) := dk_42 (dk_at dksX4_init_23 23 rfl rfl)
theorem dX4_init_566 : decode cX4_init 566 = .ok (.bipush 12, 2) := dk_16 12 (dk_at dksX4_init_24 0 rfl rfl)
theorem dX4_init_568 : decode cX4_init 568 = .ok (.newarray .boolean, 2) := dk_188_4 (dk_at dksX4_init_24 2 rfl rfl)
theorem dX4_init_570 : decode cX4_init 570 = .ok (.putfield 228, 3) := dk_181 0 228 (dk_at dksX4_init_24 4 rfl rfl)
theorem dX4_init_573 : decode cX4_init 573 = .ok (.aload_n 0, 1) := dk_42 (dk_at dksX4_init_24 7 rfl rfl)
theorem dX4_init_574 : decode cX4_init 574 = .ok (.bipush 12, 2) := dk_16 12 (dk_at dksX4_init_24 8 rfl rfl)
theorem dX4_init_576 : decode cX4_init 576 = .ok (.newarray .boolean, 2) := dk_188_4 (dk_at dksX4_init_24 10 rfl rfl)
theorem dX4_init_578 : decode cX4_init 578 = .ok (.putfield 231, 3) := dk_181 0 231 (dk_at dksX4_init_24 12 rfl rfl)
theorem dX4_init_581 : decode cX4_init 581 = .ok (.iconst 0, 1) := dk_3 (dk_at dksX4_init_24 15 rfl rfl)
theorem dX4_init_582 : decode cX4_init 582 = .ok (.istore_n 1, 1) := dk_60 (dk_at dksX4_init_24 16 rfl rfl)
theorem dX4_init_583 : decode cX4_init 583 = .ok (.iload_n 1, 1) := dk_27 (dk_at dksX4_init_24 17 rfl rfl)
theorem dX4_init_584 : decode cX4_init 584 = .ok (.bipush 6, 2) := dk_16 6 (dk_at dksX4_init_24 18 rfl rfl)
theorem dX4_init_586 : decode cX4_init 586 = .ok (.if_icmp .ge 16, 3) := dk_162 0 16 (dk_at dksX4_init_24 20 rfl rfl)
theorem dX4_init_589 : decode cX4_init 589 = .ok (.aload_n 0, 1) := dk_42 (dk_at dksX4_init_24 23 rfl rfl)
theorem dX4_init_590 : decode cX4_init 590 = .ok (.getfield 16, 3) := dk_180 0 16 (dk_at dksX4_init_25 0 rfl rfl)
theorem dX4_init_593 : decode cX4_init 593 = .ok (.iload_n 1, 1) := dk_27 (dk_at dksX4_init_25 3 rfl rfl)
theorem dX4_init_594 : decode cX4_init 594 = .ok (.iconst 5, 1) := dk_8 (dk_at dksX4_init_25 4 rfl rfl)
theorem dX4_init_595 : decode cX4_init 595 = .ok (.iastore, 1) := dk_79 (dk_at dksX4_init_25 5 rfl rfl)
theorem dX4_init_596 : decode cX4_init 596 = .ok (.iinc 1 1, 3) := dk_132 1 1 (dk_at dksX4_init_25 6 rfl rfl)
theorem dX4_init_599 : decode cX4_init 599 = .ok (.goto (-16), 3) := dk_167 255 240 (dk_at dksX4_init_25 9 rfl rfl)
theorem dX4_init_602 : decode cX4_init 602 = .ok (.iconst 0, 1) := dk_3 (dk_at dksX4_init_25 12 rfl rfl)
theorem dX4_init_603 : decode cX4_init 603 = .ok (.istore_n 1, 1) := dk_60 (dk_at dksX4_init_25 13 rfl rfl)
theorem dX4_init_604 : decode cX4_init 604 = .ok (.iload_n 1, 1) := dk_27 (dk_at dksX4_init_25 14 rfl rfl)
theorem dX4_init_605 : decode cX4_init 605 = .ok (.iconst 2, 1) := dk_5 (dk_at dksX4_init_25 15 rfl rfl)
theorem dX4_init_606 : decode cX4_init 606 = .ok (.if_icmp .ge 17, 3) := dk_162 0 17 (dk_at dksX4_init_25 16 rfl rfl)
theorem dX4_init_609 : decode cX4_init 609 = .ok (.aload_n 0, 1) := dk_42 (dk_at dksX4_init_25 19 rfl rfl)
theorem dX4_init_610 : decode cX4_init 610 = .ok (.getfield 63, 3) := dk_180 0 63 (dk_at dksX4_init_25 20 rfl rfl)
theorem dX4_init_613 : decode cX4_init 613 = .ok (.iload_n 1, 1) := dk_27 (dk_at dksX4_init_25 23 rfl rfl)
theorem dX4_init_614 : decode cX4_init 614 = .ok (.bipush 20, 2) := dk_16 20 (dk_at dksX4_init_26 0 rfl rfl)
theorem dX4_init_616 : decode cX4_init 616 = .ok (.iastore, 1) := dk_79 (dk_at dksX4_init_26 2 rfl rfl)
theorem dX4_init_617 : decode cX4_init 617 = .ok (.iinc 1 1, 3) := dk_132 1 1 (dk_at dksX4_init_26 3 rfl rfl)
theorem dX4_init_620 : decode cX4_init 620 = .ok (.goto (-16), 3) := dk_167 255 240 (dk_at dksX4_init_26 6 rfl rfl)
theorem dX4_init_623 : decode cX4_init 623 = .ok (.return_, 1) := dk_177 (dk_at dksX4_init_26 9 rfl rfl)
abbrev cX4_flowers : ByteArray := prog_23_method_6_code
def yX4_flowers : MethodName := ⟨RX4, "flowers", "(III)Z"⟩
def dkwX4_flowers_1 : List UInt8 := [184, 0, 244, 154, 0, 5, 3, 172, 42, 180, 0, 16, 27, 28, 79, 42, 180, 0, 20, 27, 29, 79, 4, 172]
abbrev dktX4_flowers_1 : List UInt8 := dkwX4_flowers_1 ++ []
def dkwX4_flowers_0 : List UInt8 := [27, 3, 8, 184, 0, 244, 153, 0, 23, 28, 3, 16, 9, 184, 0, 244, 153, 0, 13, 29, 3, 16, 9]
abbrev dktX4_flowers_0 : List UInt8 := dkwX4_flowers_0 ++ dktX4_flowers_1
theorem dksX4_flowers_0 : cX4_flowers.data.toList.drop 0 = dktX4_flowers_0 := by decide +kernel
theorem dksX4_flowers_1 : cX4_flowers.data.toList.drop 23 = dktX4_flowers_1 := dk_seg dksX4_flowers_0 23 rfl rfl
theorem dX4_flowers_0 : decode cX4_flowers 0 = .ok (.iload_n 1, 1) := dk_27 (dk_at dksX4_flowers_0 0 rfl rfl)
theorem dX4_flowers_1 : decode cX4_flowers 1 = .ok (.iconst 0, 1) := dk_3 (dk_at dksX4_flowers_0 1 rfl rfl)
theorem dX4_flowers_2 : decode cX4_flowers 2 = .ok (.iconst 5, 1) := dk_8 (dk_at dksX4_flowers_0 2 rfl rfl)
theorem dX4_flowers_3 : decode cX4_flowers 3 = .ok (.invokestatic 244, 3) := dk_184 0 244 (dk_at dksX4_flowers_0 3 rfl rfl)
theorem dX4_flowers_6 : decode cX4_flowers 6 = .ok (.ifCond .eq 23, 3) := dk_153 0 23 (dk_at dksX4_flowers_0 6 rfl rfl)
theorem dX4_flowers_9 : decode cX4_flowers 9 = .ok (.iload_n 2, 1) := dk_28 (dk_at dksX4_flowers_0 9 rfl rfl)
theorem dX4_flowers_10 : decode cX4_flowers 10 = .ok (.iconst 0, 1) := dk_3 (dk_at dksX4_flowers_0 10 rfl rfl)
theorem dX4_flowers_11 : decode cX4_flowers 11 = .ok (.bipush 9, 2) := dk_16 9 (dk_at dksX4_flowers_0 11 rfl rfl)
theorem dX4_flowers_13 : decode cX4_flowers 13 = .ok (.invokestatic 244, 3) := dk_184 0 244 (dk_at dksX4_flowers_0 13 rfl rfl)
theorem dX4_flowers_16 : decode cX4_flowers 16 = .ok (.ifCond .eq 13, 3) := dk_153 0 13 (dk_at dksX4_flowers_0 16 rfl rfl)
theorem dX4_flowers_19 : decode cX4_flowers 19 = .ok (.iload_n 3, 1) := dk_29 (dk_at dksX4_flowers_0 19 rfl rfl)
theorem dX4_flowers_20 : decode cX4_flowers 20 = .ok (.iconst 0, 1) := dk_3 (dk_at dksX4_flowers_0 20 rfl rfl)
theorem dX4_flowers_21 : decode cX4_flowers 21 = .ok (.bipush 9, 2) := dk_16 9 (dk_at dksX4_flowers_0 21 rfl rfl)
theorem dX4_flowers_23 : decode cX4_flowers 23 = .ok (.invokestatic 244, 3) := dk_184 0 244 (dk_at dksX4_flowers_1 0 rfl rfl)
theorem dX4_flowers_26 : decode cX4_flowers 26 = .ok (.ifCond .ne 5, 3) := dk_154 0 5 (dk_at dksX4_flowers_1 3 rfl rfl)
theorem dX4_flowers_29 : decode cX4_flowers 29 = .ok (.iconst 0, 1) := dk_3 (dk_at dksX4_flowers_1 6 rfl rfl)
theorem dX4_flowers_30 : decode cX4_flowers 30 = .ok (.ireturn, 1) := dk_172 (dk_at dksX4_flowers_1 7 rfl rfl)
theorem dX4_flowers_31 : decode cX4_flowers 31 = .ok (.aload_n 0, 1) := dk_42 (dk_at dksX4_flowers_1 8 rfl rfl)
theorem dX4_flowers_32 : decode cX4_flowers 32 = .ok (.getfield 16, 3) := dk_180 0 16 (dk_at dksX4_flowers_1 9 rfl rfl)
theorem dX4_flowers_35 : decode cX4_flowers 35 = .ok (.iload_n 1, 1) := dk_27 (dk_at dksX4_flowers_1 12 rfl rfl)
theorem dX4_flowers_36 : decode cX4_flowers 36 = .ok (.iload_n 2, 1) := dk_28 (dk_at dksX4_flowers_1 13 rfl rfl)
theorem dX4_flowers_37 : decode cX4_flowers 37 = .ok (.iastore, 1) := dk_79 (dk_at dksX4_flowers_1 14 rfl rfl)
theorem dX4_flowers_38 : decode cX4_flowers 38 = .ok (.aload_n 0, 1) := dk_42 (dk_at dksX4_flowers_1 15 rfl rfl)
theorem dX4_flowers_39 : decode cX4_flowers 39 = .ok (.getfield 20, 3) := dk_180 0 20 (dk_at dksX4_flowers_1 16 rfl rfl)
theorem dX4_flowers_42 : decode cX4_flowers 42 = .ok (.iload_n 1, 1) := dk_27 (dk_at dksX4_flowers_1 19 rfl rfl)
theorem dX4_flowers_43 : decode cX4_flowers 43 = .ok (.iload_n 3, 1) := dk_29 (dk_at dksX4_flowers_1 20 rfl rfl)
theorem dX4_flowers_44 : decode cX4_flowers 44 = .ok (.iastore, 1) := dk_79 (dk_at dksX4_flowers_1 21 rfl rfl)
theorem dX4_flowers_45 : decode cX4_flowers 45 = .ok (.iconst 1, 1) := dk_4 (dk_at dksX4_flowers_1 22 rfl rfl)
theorem dX4_flowers_46 : decode cX4_flowers 46 = .ok (.ireturn, 1) := dk_172 (dk_at dksX4_flowers_1 23 rfl rfl)
abbrev cX4_isIn : ByteArray := prog_23_method_2_code
def yX4_isIn : MethodName := ⟨RX4, "isIn", "(III)Z"⟩
def dkwX4_isIn_0 : List UInt8 := [26, 27, 161, 0, 12, 26, 28, 163, 0, 7, 4, 167, 0, 4, 3, 172]
abbrev dktX4_isIn_0 : List UInt8 := dkwX4_isIn_0 ++ []
theorem dksX4_isIn_0 : cX4_isIn.data.toList.drop 0 = dktX4_isIn_0 := by decide +kernel
theorem dX4_isIn_0 : decode cX4_isIn 0 = .ok (.iload_n 0, 1) := dk_26 (dk_at dksX4_isIn_0 0 rfl rfl)
theorem dX4_isIn_1 : decode cX4_isIn 1 = .ok (.iload_n 1, 1) := dk_27 (dk_at dksX4_isIn_0 1 rfl rfl)
theorem dX4_isIn_2 : decode cX4_isIn 2 = .ok (.if_icmp .lt 12, 3) := dk_161 0 12 (dk_at dksX4_isIn_0 2 rfl rfl)
theorem dX4_isIn_5 : decode cX4_isIn 5 = .ok (.iload_n 0, 1) := dk_26 (dk_at dksX4_isIn_0 5 rfl rfl)
theorem dX4_isIn_6 : decode cX4_isIn 6 = .ok (.iload_n 2, 1) := dk_28 (dk_at dksX4_isIn_0 6 rfl rfl)
theorem dX4_isIn_7 : decode cX4_isIn 7 = .ok (.if_icmp .gt 7, 3) := dk_163 0 7 (dk_at dksX4_isIn_0 7 rfl rfl)
theorem dX4_isIn_10 : decode cX4_isIn 10 = .ok (.iconst 1, 1) := dk_4 (dk_at dksX4_isIn_0 10 rfl rfl)
theorem dX4_isIn_11 : decode cX4_isIn 11 = .ok (.goto 4, 3) := dk_167 0 4 (dk_at dksX4_isIn_0 11 rfl rfl)
theorem dX4_isIn_14 : decode cX4_isIn 14 = .ok (.iconst 0, 1) := dk_3 (dk_at dksX4_isIn_0 14 rfl rfl)
theorem dX4_isIn_15 : decode cX4_isIn 15 = .ok (.ireturn, 1) := dk_172 (dk_at dksX4_isIn_0 15 rfl rfl)
abbrev cX4_ledge : ByteArray := prog_23_method_8_code
def yX4_ledge : MethodName := ⟨RX4, "ledge", "(IIII)I"⟩
def dkwX4_ledge_7 : List UInt8 := [180, 0, 248, 4, 96, 181, 0, 248, 42, 180, 0, 248, 4, 100, 172]
abbrev dktX4_ledge_7 : List UInt8 := dkwX4_ledge_7 ++ []
def dkwX4_ledge_6 : List UInt8 := [180, 0, 38, 42, 180, 0, 248, 16, 100, 79, 42, 180, 0, 47, 42, 180, 0, 248, 16, 9, 79, 42, 89]
abbrev dktX4_ledge_6 : List UInt8 := dkwX4_ledge_6 ++ dktX4_ledge_7
def dkwX4_ledge_5 : List UInt8 := [28, 79, 42, 180, 0, 29, 42, 180, 0, 248, 29, 79, 42, 180, 0, 41, 42, 180, 0, 248, 21, 4, 79, 42]
abbrev dktX4_ledge_5 : List UInt8 := dkwX4_ledge_5 ++ dktX4_ledge_6
def dkwX4_ledge_4 : List UInt8 := [132, 5, 1, 167, 255, 220, 42, 180, 0, 23, 42, 180, 0, 248, 27, 79, 42, 180, 0, 26, 42, 180, 0, 248]
abbrev dktX4_ledge_4 : List UInt8 := dkwX4_ledge_4 ++ dktX4_ledge_5
def dkwX4_ledge_3 : List UInt8 := [180, 0, 23, 21, 5, 46, 27, 160, 0, 16, 42, 180, 0, 26, 21, 5, 46, 28, 160, 0, 5, 2, 172]
abbrev dktX4_ledge_3 : List UInt8 := dkwX4_ledge_3 ++ dktX4_ledge_4
def dkwX4_ledge_2 : List UInt8 := [180, 0, 248, 16, 12, 160, 0, 5, 2, 172, 3, 54, 5, 21, 5, 42, 180, 0, 248, 162, 0, 33, 42]
abbrev dktX4_ledge_2 : List UInt8 := dkwX4_ledge_2 ++ dktX4_ledge_3
def dkwX4_ledge_1 : List UInt8 := [184, 0, 244, 153, 0, 27, 21, 4, 2, 159, 0, 12, 42, 21, 4, 182, 0, 251, 153, 0, 12, 42]
abbrev dktX4_ledge_1 : List UInt8 := dkwX4_ledge_1 ++ dktX4_ledge_2
def dkwX4_ledge_0 : List UInt8 := [27, 3, 16, 15, 184, 0, 244, 153, 0, 47, 28, 3, 16, 98, 184, 0, 244, 153, 0, 37, 29, 3, 16, 9]
abbrev dktX4_ledge_0 : List UInt8 := dkwX4_ledge_0 ++ dktX4_ledge_1
theorem dksX4_ledge_0 : cX4_ledge.data.toList.drop 0 = dktX4_ledge_0 := by decide +kernel
theorem dksX4_ledge_1 : cX4_ledge.data.toList.drop 24 = dktX4_ledge_1 := dk_seg dksX4_ledge_0 24 rfl rfl
theorem dksX4_ledge_2 : cX4_ledge.data.toList.drop 46 = dktX4_ledge_2 := dk_seg dksX4_ledge_1 22 rfl rfl
theorem dksX4_ledge_3 : cX4_ledge.data.toList.drop 69 = dktX4_ledge_3 := dk_seg dksX4_ledge_2 23 rfl rfl
theorem dksX4_ledge_4 : cX4_ledge.data.toList.drop 92 = dktX4_ledge_4 := dk_seg dksX4_ledge_3 23 rfl rfl
theorem dksX4_ledge_5 : cX4_ledge.data.toList.drop 116 = dktX4_ledge_5 := dk_seg dksX4_ledge_4 24 rfl rfl
theorem dksX4_ledge_6 : cX4_ledge.data.toList.drop 140 = dktX4_ledge_6 := dk_seg dksX4_ledge_5 24 rfl rfl
theorem dksX4_ledge_7 : cX4_ledge.data.toList.drop 163 = dktX4_ledge_7 := dk_seg dksX4_ledge_6 23 rfl rfl
theorem dX4_ledge_0 : decode cX4_ledge 0 = .ok (.iload_n 1, 1) := dk_27 (dk_at dksX4_ledge_0 0 rfl rfl)
theorem dX4_ledge_1 : decode cX4_ledge 1 = .ok (.iconst 0, 1) := dk_3 (dk_at dksX4_ledge_0 1 rfl rfl)
theorem dX4_ledge_2 : decode cX4_ledge 2 = .ok (.bipush 15, 2) := dk_16 15 (dk_at dksX4_ledge_0 2 rfl rfl)
theorem dX4_ledge_4 : decode cX4_ledge 4 = .ok (.invokestatic 244, 3) := dk_184 0 244 (dk_at dksX4_ledge_0 4 rfl rfl)
theorem dX4_ledge_7 : decode cX4_ledge 7 = .ok (.ifCond .eq 47, 3) := dk_153 0 47 (dk_at dksX4_ledge_0 7 rfl rfl)
theorem dX4_ledge_10 : decode cX4_ledge 10 = .ok (.iload_n 2, 1) := dk_28 (dk_at dksX4_ledge_0 10 rfl rfl)
theorem dX4_ledge_11 : decode cX4_ledge 11 = .ok (.iconst 0, 1) := dk_3 (dk_at dksX4_ledge_0 11 rfl rfl)
theorem dX4_ledge_12 : decode cX4_ledge 12 = .ok (.bipush 98, 2) := dk_16 98 (dk_at dksX4_ledge_0 12 rfl rfl)
theorem dX4_ledge_14 : decode cX4_ledge 14 = .ok (.invokestatic 244, 3) := dk_184 0 244 (dk_at dksX4_ledge_0 14 rfl rfl)
theorem dX4_ledge_17 : decode cX4_ledge 17 = .ok (.ifCond .eq 37, 3) := dk_153 0 37 (dk_at dksX4_ledge_0 17 rfl rfl)
theorem dX4_ledge_20 : decode cX4_ledge 20 = .ok (.iload_n 3, 1) := dk_29 (dk_at dksX4_ledge_0 20 rfl rfl)
theorem dX4_ledge_21 : decode cX4_ledge 21 = .ok (.iconst 0, 1) := dk_3 (dk_at dksX4_ledge_0 21 rfl rfl)
theorem dX4_ledge_22 : decode cX4_ledge 22 = .ok (.bipush 9, 2) := dk_16 9 (dk_at dksX4_ledge_0 22 rfl rfl)
theorem dX4_ledge_24 : decode cX4_ledge 24 = .ok (.invokestatic 244, 3) := dk_184 0 244 (dk_at dksX4_ledge_1 0 rfl rfl)
theorem dX4_ledge_27 : decode cX4_ledge 27 = .ok (.ifCond .eq 27, 3) := dk_153 0 27 (dk_at dksX4_ledge_1 3 rfl rfl)
theorem dX4_ledge_30 : decode cX4_ledge 30 = .ok (.iload 4, 2) := dk_21 4 (dk_at dksX4_ledge_1 6 rfl rfl)
theorem dX4_ledge_32 : decode cX4_ledge 32 = .ok (.iconst (-1), 1) := dk_2 (dk_at dksX4_ledge_1 8 rfl rfl)
theorem dX4_ledge_33 : decode cX4_ledge 33 = .ok (.if_icmp .eq 12, 3) := dk_159 0 12 (dk_at dksX4_ledge_1 9 rfl rfl)
theorem dX4_ledge_36 : decode cX4_ledge 36 = .ok (.aload_n 0, 1) := dk_42 (dk_at dksX4_ledge_1 12 rfl rfl)
theorem dX4_ledge_37 : decode cX4_ledge 37 = .ok (.iload 4, 2) := dk_21 4 (dk_at dksX4_ledge_1 13 rfl rfl)
theorem dX4_ledge_39 : decode cX4_ledge 39 = .ok (.invokevirtual 251, 3) := dk_182 0 251 (dk_at dksX4_ledge_1 15 rfl rfl)
theorem dX4_ledge_42 : decode cX4_ledge 42 = .ok (.ifCond .eq 12, 3) := dk_153 0 12 (dk_at dksX4_ledge_1 18 rfl rfl)
theorem dX4_ledge_45 : decode cX4_ledge 45 = .ok (.aload_n 0, 1) := dk_42 (dk_at dksX4_ledge_1 21 rfl rfl)
theorem dX4_ledge_46 : decode cX4_ledge 46 = .ok (.getfield 248, 3) := dk_180 0 248 (dk_at dksX4_ledge_2 0 rfl rfl)
theorem dX4_ledge_49 : decode cX4_ledge 49 = .ok (.bipush 12, 2) := dk_16 12 (dk_at dksX4_ledge_2 3 rfl rfl)
theorem dX4_ledge_51 : decode cX4_ledge 51 = .ok (.if_icmp .ne 5, 3) := dk_160 0 5 (dk_at dksX4_ledge_2 5 rfl rfl)
theorem dX4_ledge_54 : decode cX4_ledge 54 = .ok (.iconst (-1), 1) := dk_2 (dk_at dksX4_ledge_2 8 rfl rfl)
theorem dX4_ledge_55 : decode cX4_ledge 55 = .ok (.ireturn, 1) := dk_172 (dk_at dksX4_ledge_2 9 rfl rfl)
theorem dX4_ledge_56 : decode cX4_ledge 56 = .ok (.iconst 0, 1) := dk_3 (dk_at dksX4_ledge_2 10 rfl rfl)
theorem dX4_ledge_57 : decode cX4_ledge 57 = .ok (.istore 5, 2) := dk_54 5 (dk_at dksX4_ledge_2 11 rfl rfl)
theorem dX4_ledge_59 : decode cX4_ledge 59 = .ok (.iload 5, 2) := dk_21 5 (dk_at dksX4_ledge_2 13 rfl rfl)
theorem dX4_ledge_61 : decode cX4_ledge 61 = .ok (.aload_n 0, 1) := dk_42 (dk_at dksX4_ledge_2 15 rfl rfl)
theorem dX4_ledge_62 : decode cX4_ledge 62 = .ok (.getfield 248, 3) := dk_180 0 248 (dk_at dksX4_ledge_2 16 rfl rfl)
theorem dX4_ledge_65 : decode cX4_ledge 65 = .ok (.if_icmp .ge 33, 3) := dk_162 0 33 (dk_at dksX4_ledge_2 19 rfl rfl)
theorem dX4_ledge_68 : decode cX4_ledge 68 = .ok (.aload_n 0, 1) := dk_42 (dk_at dksX4_ledge_2 22 rfl rfl)
theorem dX4_ledge_69 : decode cX4_ledge 69 = .ok (.getfield 23, 3) := dk_180 0 23 (dk_at dksX4_ledge_3 0 rfl rfl)
theorem dX4_ledge_72 : decode cX4_ledge 72 = .ok (.iload 5, 2) := dk_21 5 (dk_at dksX4_ledge_3 3 rfl rfl)
theorem dX4_ledge_74 : decode cX4_ledge 74 = .ok (.iaload, 1) := dk_46 (dk_at dksX4_ledge_3 5 rfl rfl)
theorem dX4_ledge_75 : decode cX4_ledge 75 = .ok (.iload_n 1, 1) := dk_27 (dk_at dksX4_ledge_3 6 rfl rfl)
theorem dX4_ledge_76 : decode cX4_ledge 76 = .ok (.if_icmp .ne 16, 3) := dk_160 0 16 (dk_at dksX4_ledge_3 7 rfl rfl)
theorem dX4_ledge_79 : decode cX4_ledge 79 = .ok (.aload_n 0, 1) := dk_42 (dk_at dksX4_ledge_3 10 rfl rfl)
theorem dX4_ledge_80 : decode cX4_ledge 80 = .ok (.getfield 26, 3) := dk_180 0 26 (dk_at dksX4_ledge_3 11 rfl rfl)
theorem dX4_ledge_83 : decode cX4_ledge 83 = .ok (.iload 5, 2) := dk_21 5 (dk_at dksX4_ledge_3 14 rfl rfl)
theorem dX4_ledge_85 : decode cX4_ledge 85 = .ok (.iaload, 1) := dk_46 (dk_at dksX4_ledge_3 16 rfl rfl)
theorem dX4_ledge_86 : decode cX4_ledge 86 = .ok (.iload_n 2, 1) := dk_28 (dk_at dksX4_ledge_3 17 rfl rfl)
theorem dX4_ledge_87 : decode cX4_ledge 87 = .ok (.if_icmp .ne 5, 3) := dk_160 0 5 (dk_at dksX4_ledge_3 18 rfl rfl)
theorem dX4_ledge_90 : decode cX4_ledge 90 = .ok (.iconst (-1), 1) := dk_2 (dk_at dksX4_ledge_3 21 rfl rfl)
theorem dX4_ledge_91 : decode cX4_ledge 91 = .ok (.ireturn, 1) := dk_172 (dk_at dksX4_ledge_3 22 rfl rfl)
theorem dX4_ledge_92 : decode cX4_ledge 92 = .ok (.iinc 5 1, 3) := dk_132 5 1 (dk_at dksX4_ledge_4 0 rfl rfl)
theorem dX4_ledge_95 : decode cX4_ledge 95 = .ok (.goto (-36), 3) := dk_167 255 220 (dk_at dksX4_ledge_4 3 rfl rfl)
theorem dX4_ledge_98 : decode cX4_ledge 98 = .ok (.aload_n 0, 1) := dk_42 (dk_at dksX4_ledge_4 6 rfl rfl)
theorem dX4_ledge_99 : decode cX4_ledge 99 = .ok (.getfield 23, 3) := dk_180 0 23 (dk_at dksX4_ledge_4 7 rfl rfl)
theorem dX4_ledge_102 : decode cX4_ledge 102 = .ok (.aload_n 0, 1) := dk_42 (dk_at dksX4_ledge_4 10 rfl rfl)
theorem dX4_ledge_103 : decode cX4_ledge 103 = .ok (.getfield 248, 3) := dk_180 0 248 (dk_at dksX4_ledge_4 11 rfl rfl)
theorem dX4_ledge_106 : decode cX4_ledge 106 = .ok (.iload_n 1, 1) := dk_27 (dk_at dksX4_ledge_4 14 rfl rfl)
theorem dX4_ledge_107 : decode cX4_ledge 107 = .ok (.iastore, 1) := dk_79 (dk_at dksX4_ledge_4 15 rfl rfl)
theorem dX4_ledge_108 : decode cX4_ledge 108 = .ok (.aload_n 0, 1) := dk_42 (dk_at dksX4_ledge_4 16 rfl rfl)
theorem dX4_ledge_109 : decode cX4_ledge 109 = .ok (.getfield 26, 3) := dk_180 0 26 (dk_at dksX4_ledge_4 17 rfl rfl)
theorem dX4_ledge_112 : decode cX4_ledge 112 = .ok (.aload_n 0, 1) := dk_42 (dk_at dksX4_ledge_4 20 rfl rfl)
theorem dX4_ledge_113 : decode cX4_ledge 113 = .ok (.getfield 248, 3) := dk_180 0 248 (dk_at dksX4_ledge_4 21 rfl rfl)
theorem dX4_ledge_116 : decode cX4_ledge 116 = .ok (.iload_n 2, 1) := dk_28 (dk_at dksX4_ledge_5 0 rfl rfl)
theorem dX4_ledge_117 : decode cX4_ledge 117 = .ok (.iastore, 1) := dk_79 (dk_at dksX4_ledge_5 1 rfl rfl)
theorem dX4_ledge_118 : decode cX4_ledge 118 = .ok (.aload_n 0, 1) := dk_42 (dk_at dksX4_ledge_5 2 rfl rfl)
theorem dX4_ledge_119 : decode cX4_ledge 119 = .ok (.getfield 29, 3) := dk_180 0 29 (dk_at dksX4_ledge_5 3 rfl rfl)
theorem dX4_ledge_122 : decode cX4_ledge 122 = .ok (.aload_n 0, 1) := dk_42 (dk_at dksX4_ledge_5 6 rfl rfl)
theorem dX4_ledge_123 : decode cX4_ledge 123 = .ok (.getfield 248, 3) := dk_180 0 248 (dk_at dksX4_ledge_5 7 rfl rfl)
theorem dX4_ledge_126 : decode cX4_ledge 126 = .ok (.iload_n 3, 1) := dk_29 (dk_at dksX4_ledge_5 10 rfl rfl)
theorem dX4_ledge_127 : decode cX4_ledge 127 = .ok (.iastore, 1) := dk_79 (dk_at dksX4_ledge_5 11 rfl rfl)
theorem dX4_ledge_128 : decode cX4_ledge 128 = .ok (.aload_n 0, 1) := dk_42 (dk_at dksX4_ledge_5 12 rfl rfl)
theorem dX4_ledge_129 : decode cX4_ledge 129 = .ok (.getfield 41, 3) := dk_180 0 41 (dk_at dksX4_ledge_5 13 rfl rfl)
theorem dX4_ledge_132 : decode cX4_ledge 132 = .ok (.aload_n 0, 1) := dk_42 (dk_at dksX4_ledge_5 16 rfl rfl)
theorem dX4_ledge_133 : decode cX4_ledge 133 = .ok (.getfield 248, 3) := dk_180 0 248 (dk_at dksX4_ledge_5 17 rfl rfl)
theorem dX4_ledge_136 : decode cX4_ledge 136 = .ok (.iload 4, 2) := dk_21 4 (dk_at dksX4_ledge_5 20 rfl rfl)
theorem dX4_ledge_138 : decode cX4_ledge 138 = .ok (.iastore, 1) := dk_79 (dk_at dksX4_ledge_5 22 rfl rfl)
theorem dX4_ledge_139 : decode cX4_ledge 139 = .ok (.aload_n 0, 1) := dk_42 (dk_at dksX4_ledge_5 23 rfl rfl)
theorem dX4_ledge_140 : decode cX4_ledge 140 = .ok (.getfield 38, 3) := dk_180 0 38 (dk_at dksX4_ledge_6 0 rfl rfl)
theorem dX4_ledge_143 : decode cX4_ledge 143 = .ok (.aload_n 0, 1) := dk_42 (dk_at dksX4_ledge_6 3 rfl rfl)
theorem dX4_ledge_144 : decode cX4_ledge 144 = .ok (.getfield 248, 3) := dk_180 0 248 (dk_at dksX4_ledge_6 4 rfl rfl)
theorem dX4_ledge_147 : decode cX4_ledge 147 = .ok (.bipush 100, 2) := dk_16 100 (dk_at dksX4_ledge_6 7 rfl rfl)
theorem dX4_ledge_149 : decode cX4_ledge 149 = .ok (.iastore, 1) := dk_79 (dk_at dksX4_ledge_6 9 rfl rfl)
theorem dX4_ledge_150 : decode cX4_ledge 150 = .ok (.aload_n 0, 1) := dk_42 (dk_at dksX4_ledge_6 10 rfl rfl)
theorem dX4_ledge_151 : decode cX4_ledge 151 = .ok (.getfield 47, 3) := dk_180 0 47 (dk_at dksX4_ledge_6 11 rfl rfl)
theorem dX4_ledge_154 : decode cX4_ledge 154 = .ok (.aload_n 0, 1) := dk_42 (dk_at dksX4_ledge_6 14 rfl rfl)
theorem dX4_ledge_155 : decode cX4_ledge 155 = .ok (.getfield 248, 3) := dk_180 0 248 (dk_at dksX4_ledge_6 15 rfl rfl)
theorem dX4_ledge_158 : decode cX4_ledge 158 = .ok (.bipush 9, 2) := dk_16 9 (dk_at dksX4_ledge_6 18 rfl rfl)
theorem dX4_ledge_160 : decode cX4_ledge 160 = .ok (.iastore, 1) := dk_79 (dk_at dksX4_ledge_6 20 rfl rfl)
theorem dX4_ledge_161 : decode cX4_ledge 161 = .ok (.aload_n 0, 1) := dk_42 (dk_at dksX4_ledge_6 21 rfl rfl)
theorem dX4_ledge_162 : decode cX4_ledge 162 = .ok (.dup, 1) := dk_89 (dk_at dksX4_ledge_6 22 rfl rfl)
theorem dX4_ledge_163 : decode cX4_ledge 163 = .ok (.getfield 248, 3) := dk_180 0 248 (dk_at dksX4_ledge_7 0 rfl rfl)
theorem dX4_ledge_166 : decode cX4_ledge 166 = .ok (.iconst 1, 1) := dk_4 (dk_at dksX4_ledge_7 3 rfl rfl)
theorem dX4_ledge_167 : decode cX4_ledge 167 = .ok (.iadd, 1) := dk_96 (dk_at dksX4_ledge_7 4 rfl rfl)
theorem dX4_ledge_168 : decode cX4_ledge 168 = .ok (.putfield 248, 3) := dk_181 0 248 (dk_at dksX4_ledge_7 5 rfl rfl)
theorem dX4_ledge_171 : decode cX4_ledge 171 = .ok (.aload_n 0, 1) := dk_42 (dk_at dksX4_ledge_7 8 rfl rfl)
theorem dX4_ledge_172 : decode cX4_ledge 172 = .ok (.getfield 248, 3) := dk_180 0 248 (dk_at dksX4_ledge_7 9 rfl rfl)
theorem dX4_ledge_175 : decode cX4_ledge 175 = .ok (.iconst 1, 1) := dk_4 (dk_at dksX4_ledge_7 12 rfl rfl)
theorem dX4_ledge_176 : decode cX4_ledge 176 = .ok (.isub, 1) := dk_100 (dk_at dksX4_ledge_7 13 rfl rfl)
theorem dX4_ledge_177 : decode cX4_ledge 177 = .ok (.ireturn, 1) := dk_172 (dk_at dksX4_ledge_7 14 rfl rfl)
abbrev cX4_isPerson : ByteArray := prog_23_method_65_code
def yX4_isPerson : MethodName := ⟨RX4, "isPerson", "(I)Z"⟩
def dkwX4_isPerson_0 : List UInt8 := [27, 3, 42, 180, 1, 244, 4, 100, 184, 0, 244, 172]
abbrev dktX4_isPerson_0 : List UInt8 := dkwX4_isPerson_0 ++ []
theorem dksX4_isPerson_0 : cX4_isPerson.data.toList.drop 0 = dktX4_isPerson_0 := by decide +kernel
theorem dX4_isPerson_0 : decode cX4_isPerson 0 = .ok (.iload_n 1, 1) := dk_27 (dk_at dksX4_isPerson_0 0 rfl rfl)
theorem dX4_isPerson_1 : decode cX4_isPerson 1 = .ok (.iconst 0, 1) := dk_3 (dk_at dksX4_isPerson_0 1 rfl rfl)
theorem dX4_isPerson_2 : decode cX4_isPerson 2 = .ok (.aload_n 0, 1) := dk_42 (dk_at dksX4_isPerson_0 2 rfl rfl)
theorem dX4_isPerson_3 : decode cX4_isPerson 3 = .ok (.getfield 500, 3) := dk_180 1 244 (dk_at dksX4_isPerson_0 3 rfl rfl)
theorem dX4_isPerson_6 : decode cX4_isPerson 6 = .ok (.iconst 1, 1) := dk_4 (dk_at dksX4_isPerson_0 6 rfl rfl)
theorem dX4_isPerson_7 : decode cX4_isPerson 7 = .ok (.isub, 1) := dk_100 (dk_at dksX4_isPerson_0 7 rfl rfl)
theorem dX4_isPerson_8 : decode cX4_isPerson 8 = .ok (.invokestatic 244, 3) := dk_184 0 244 (dk_at dksX4_isPerson_0 8 rfl rfl)
theorem dX4_isPerson_11 : decode cX4_isPerson 11 = .ok (.ireturn, 1) := dk_172 (dk_at dksX4_isPerson_0 11 rfl rfl)
abbrev cX4_of : ByteArray := prog_23_method_9_code
def yX4_of : MethodName := ⟨RX4, "of", "(II)I"⟩
def dkwX4_of_5 : List UInt8 := [167, 0, 4, 3, 172, 42, 180, 0, 41, 27, 46, 172, 2, 172]
abbrev dktX4_of_5 : List UInt8 := dkwX4_of_5 ++ []
def dkwX4_of_4 : List UInt8 := [167, 0, 4, 3, 172, 42, 180, 0, 38, 27, 46, 172, 42, 180, 0, 54, 27, 51, 153, 0, 7, 4]
abbrev dktX4_of_4 : List UInt8 := dkwX4_of_4 ++ dktX4_of_5
def dkwX4_of_3 : List UInt8 := [180, 0, 32, 27, 46, 172, 42, 180, 0, 35, 27, 46, 172, 42, 180, 0, 50, 27, 51, 153, 0, 7, 4]
abbrev dktX4_of_3 : List UInt8 := dkwX4_of_3 ++ dktX4_of_4
def dkwX4_of_2 : List UInt8 := [42, 180, 0, 23, 27, 46, 172, 42, 180, 0, 26, 27, 46, 172, 42, 180, 0, 29, 27, 46, 172, 42]
abbrev dktX4_of_2 : List UInt8 := dkwX4_of_2 ++ dktX4_of_3
def dkwX4_of_1 : List UInt8 := [170, 0, 0, 0, 128, 0, 0, 0, 0, 0, 0, 0, 8, 0, 0, 0, 49, 0, 0, 0, 56, 0, 0, 0, 63, 0, 0, 0, 70, 0, 0, 0, 77, 0, 0, 0, 84, 0, 0, 0, 99, 0, 0, 0, 106, 0, 0, 0, 121]
abbrev dktX4_of_1 : List UInt8 := dkwX4_of_1 ++ dktX4_of_2
def dkwX4_of_0 : List UInt8 := [42, 27, 182, 0, 255, 154, 0, 5, 2, 172, 28]
abbrev dktX4_of_0 : List UInt8 := dkwX4_of_0 ++ dktX4_of_1
theorem dksX4_of_0 : cX4_of.data.toList.drop 0 = dktX4_of_0 := by decide +kernel
theorem dksX4_of_1 : cX4_of.data.toList.drop 11 = dktX4_of_1 := dk_seg dksX4_of_0 11 rfl rfl
theorem dksX4_of_2 : cX4_of.data.toList.drop 60 = dktX4_of_2 := dk_seg dksX4_of_1 49 rfl rfl
theorem dksX4_of_3 : cX4_of.data.toList.drop 82 = dktX4_of_3 := dk_seg dksX4_of_2 22 rfl rfl
theorem dksX4_of_4 : cX4_of.data.toList.drop 105 = dktX4_of_4 := dk_seg dksX4_of_3 23 rfl rfl
theorem dksX4_of_5 : cX4_of.data.toList.drop 127 = dktX4_of_5 := dk_seg dksX4_of_4 22 rfl rfl
theorem dX4_of_0 : decode cX4_of 0 = .ok (.aload_n 0, 1) := dk_42 (dk_at dksX4_of_0 0 rfl rfl)
theorem dX4_of_1 : decode cX4_of 1 = .ok (.iload_n 1, 1) := dk_27 (dk_at dksX4_of_0 1 rfl rfl)
theorem dX4_of_2 : decode cX4_of 2 = .ok (.invokevirtual 255, 3) := dk_182 0 255 (dk_at dksX4_of_0 2 rfl rfl)
theorem dX4_of_5 : decode cX4_of 5 = .ok (.ifCond .ne 5, 3) := dk_154 0 5 (dk_at dksX4_of_0 5 rfl rfl)
theorem dX4_of_8 : decode cX4_of 8 = .ok (.iconst (-1), 1) := dk_2 (dk_at dksX4_of_0 8 rfl rfl)
theorem dX4_of_9 : decode cX4_of 9 = .ok (.ireturn, 1) := dk_172 (dk_at dksX4_of_0 9 rfl rfl)
theorem dX4_of_10 : decode cX4_of 10 = .ok (.iload_n 2, 1) := dk_28 (dk_at dksX4_of_0 10 rfl rfl)
theorem dX4_of_11 : decode cX4_of 11 = .ok (.tableswitch 128 0 8 #[49, 56, 63, 70, 77, 84, 99, 106, 121], 49) := by decide +kernel
theorem dX4_of_60 : decode cX4_of 60 = .ok (.aload_n 0, 1) := dk_42 (dk_at dksX4_of_2 0 rfl rfl)
theorem dX4_of_61 : decode cX4_of 61 = .ok (.getfield 23, 3) := dk_180 0 23 (dk_at dksX4_of_2 1 rfl rfl)
theorem dX4_of_64 : decode cX4_of 64 = .ok (.iload_n 1, 1) := dk_27 (dk_at dksX4_of_2 4 rfl rfl)
theorem dX4_of_65 : decode cX4_of 65 = .ok (.iaload, 1) := dk_46 (dk_at dksX4_of_2 5 rfl rfl)
theorem dX4_of_66 : decode cX4_of 66 = .ok (.ireturn, 1) := dk_172 (dk_at dksX4_of_2 6 rfl rfl)
theorem dX4_of_67 : decode cX4_of 67 = .ok (.aload_n 0, 1) := dk_42 (dk_at dksX4_of_2 7 rfl rfl)
theorem dX4_of_68 : decode cX4_of 68 = .ok (.getfield 26, 3) := dk_180 0 26 (dk_at dksX4_of_2 8 rfl rfl)
theorem dX4_of_71 : decode cX4_of 71 = .ok (.iload_n 1, 1) := dk_27 (dk_at dksX4_of_2 11 rfl rfl)
theorem dX4_of_72 : decode cX4_of 72 = .ok (.iaload, 1) := dk_46 (dk_at dksX4_of_2 12 rfl rfl)
theorem dX4_of_73 : decode cX4_of 73 = .ok (.ireturn, 1) := dk_172 (dk_at dksX4_of_2 13 rfl rfl)
theorem dX4_of_74 : decode cX4_of 74 = .ok (.aload_n 0, 1) := dk_42 (dk_at dksX4_of_2 14 rfl rfl)
theorem dX4_of_75 : decode cX4_of 75 = .ok (.getfield 29, 3) := dk_180 0 29 (dk_at dksX4_of_2 15 rfl rfl)
theorem dX4_of_78 : decode cX4_of 78 = .ok (.iload_n 1, 1) := dk_27 (dk_at dksX4_of_2 18 rfl rfl)
theorem dX4_of_79 : decode cX4_of 79 = .ok (.iaload, 1) := dk_46 (dk_at dksX4_of_2 19 rfl rfl)
theorem dX4_of_80 : decode cX4_of 80 = .ok (.ireturn, 1) := dk_172 (dk_at dksX4_of_2 20 rfl rfl)
theorem dX4_of_81 : decode cX4_of 81 = .ok (.aload_n 0, 1) := dk_42 (dk_at dksX4_of_2 21 rfl rfl)
theorem dX4_of_82 : decode cX4_of 82 = .ok (.getfield 32, 3) := dk_180 0 32 (dk_at dksX4_of_3 0 rfl rfl)
theorem dX4_of_85 : decode cX4_of 85 = .ok (.iload_n 1, 1) := dk_27 (dk_at dksX4_of_3 3 rfl rfl)
theorem dX4_of_86 : decode cX4_of 86 = .ok (.iaload, 1) := dk_46 (dk_at dksX4_of_3 4 rfl rfl)
theorem dX4_of_87 : decode cX4_of 87 = .ok (.ireturn, 1) := dk_172 (dk_at dksX4_of_3 5 rfl rfl)
theorem dX4_of_88 : decode cX4_of 88 = .ok (.aload_n 0, 1) := dk_42 (dk_at dksX4_of_3 6 rfl rfl)
theorem dX4_of_89 : decode cX4_of 89 = .ok (.getfield 35, 3) := dk_180 0 35 (dk_at dksX4_of_3 7 rfl rfl)
theorem dX4_of_92 : decode cX4_of 92 = .ok (.iload_n 1, 1) := dk_27 (dk_at dksX4_of_3 10 rfl rfl)
theorem dX4_of_93 : decode cX4_of 93 = .ok (.iaload, 1) := dk_46 (dk_at dksX4_of_3 11 rfl rfl)
theorem dX4_of_94 : decode cX4_of 94 = .ok (.ireturn, 1) := dk_172 (dk_at dksX4_of_3 12 rfl rfl)
theorem dX4_of_95 : decode cX4_of 95 = .ok (.aload_n 0, 1) := dk_42 (dk_at dksX4_of_3 13 rfl rfl)
theorem dX4_of_96 : decode cX4_of 96 = .ok (.getfield 50, 3) := dk_180 0 50 (dk_at dksX4_of_3 14 rfl rfl)
theorem dX4_of_99 : decode cX4_of 99 = .ok (.iload_n 1, 1) := dk_27 (dk_at dksX4_of_3 17 rfl rfl)
theorem dX4_of_100 : decode cX4_of 100 = .ok (.baload, 1) := dk_51 (dk_at dksX4_of_3 18 rfl rfl)
theorem dX4_of_101 : decode cX4_of 101 = .ok (.ifCond .eq 7, 3) := dk_153 0 7 (dk_at dksX4_of_3 19 rfl rfl)
theorem dX4_of_104 : decode cX4_of 104 = .ok (.iconst 1, 1) := dk_4 (dk_at dksX4_of_3 22 rfl rfl)
theorem dX4_of_105 : decode cX4_of 105 = .ok (.goto 4, 3) := dk_167 0 4 (dk_at dksX4_of_4 0 rfl rfl)
theorem dX4_of_108 : decode cX4_of 108 = .ok (.iconst 0, 1) := dk_3 (dk_at dksX4_of_4 3 rfl rfl)
theorem dX4_of_109 : decode cX4_of 109 = .ok (.ireturn, 1) := dk_172 (dk_at dksX4_of_4 4 rfl rfl)
theorem dX4_of_110 : decode cX4_of 110 = .ok (.aload_n 0, 1) := dk_42 (dk_at dksX4_of_4 5 rfl rfl)
theorem dX4_of_111 : decode cX4_of 111 = .ok (.getfield 38, 3) := dk_180 0 38 (dk_at dksX4_of_4 6 rfl rfl)
theorem dX4_of_114 : decode cX4_of 114 = .ok (.iload_n 1, 1) := dk_27 (dk_at dksX4_of_4 9 rfl rfl)
theorem dX4_of_115 : decode cX4_of 115 = .ok (.iaload, 1) := dk_46 (dk_at dksX4_of_4 10 rfl rfl)
theorem dX4_of_116 : decode cX4_of 116 = .ok (.ireturn, 1) := dk_172 (dk_at dksX4_of_4 11 rfl rfl)
theorem dX4_of_117 : decode cX4_of 117 = .ok (.aload_n 0, 1) := dk_42 (dk_at dksX4_of_4 12 rfl rfl)
theorem dX4_of_118 : decode cX4_of 118 = .ok (.getfield 54, 3) := dk_180 0 54 (dk_at dksX4_of_4 13 rfl rfl)
theorem dX4_of_121 : decode cX4_of 121 = .ok (.iload_n 1, 1) := dk_27 (dk_at dksX4_of_4 16 rfl rfl)
theorem dX4_of_122 : decode cX4_of 122 = .ok (.baload, 1) := dk_51 (dk_at dksX4_of_4 17 rfl rfl)
theorem dX4_of_123 : decode cX4_of 123 = .ok (.ifCond .eq 7, 3) := dk_153 0 7 (dk_at dksX4_of_4 18 rfl rfl)
theorem dX4_of_126 : decode cX4_of 126 = .ok (.iconst 1, 1) := dk_4 (dk_at dksX4_of_4 21 rfl rfl)
theorem dX4_of_127 : decode cX4_of 127 = .ok (.goto 4, 3) := dk_167 0 4 (dk_at dksX4_of_5 0 rfl rfl)
theorem dX4_of_130 : decode cX4_of 130 = .ok (.iconst 0, 1) := dk_3 (dk_at dksX4_of_5 3 rfl rfl)
theorem dX4_of_131 : decode cX4_of 131 = .ok (.ireturn, 1) := dk_172 (dk_at dksX4_of_5 4 rfl rfl)
theorem dX4_of_132 : decode cX4_of 132 = .ok (.aload_n 0, 1) := dk_42 (dk_at dksX4_of_5 5 rfl rfl)
theorem dX4_of_133 : decode cX4_of 133 = .ok (.getfield 41, 3) := dk_180 0 41 (dk_at dksX4_of_5 6 rfl rfl)
theorem dX4_of_136 : decode cX4_of 136 = .ok (.iload_n 1, 1) := dk_27 (dk_at dksX4_of_5 9 rfl rfl)
theorem dX4_of_137 : decode cX4_of 137 = .ok (.iaload, 1) := dk_46 (dk_at dksX4_of_5 10 rfl rfl)
theorem dX4_of_138 : decode cX4_of 138 = .ok (.ireturn, 1) := dk_172 (dk_at dksX4_of_5 11 rfl rfl)
theorem dX4_of_139 : decode cX4_of 139 = .ok (.iconst (-1), 1) := dk_2 (dk_at dksX4_of_5 12 rfl rfl)
theorem dX4_of_140 : decode cX4_of 140 = .ok (.ireturn, 1) := dk_172 (dk_at dksX4_of_5 13 rfl rfl)
abbrev cX4_isLedge : ByteArray := prog_23_method_7_code
def yX4_isLedge : MethodName := ⟨RX4, "isLedge", "(I)Z"⟩
def dkwX4_isLedge_0 : List UInt8 := [27, 3, 42, 180, 0, 248, 4, 100, 184, 0, 244, 172]
abbrev dktX4_isLedge_0 : List UInt8 := dkwX4_isLedge_0 ++ []
theorem dksX4_isLedge_0 : cX4_isLedge.data.toList.drop 0 = dktX4_isLedge_0 := by decide +kernel
theorem dX4_isLedge_0 : decode cX4_isLedge 0 = .ok (.iload_n 1, 1) := dk_27 (dk_at dksX4_isLedge_0 0 rfl rfl)
theorem dX4_isLedge_1 : decode cX4_isLedge 1 = .ok (.iconst 0, 1) := dk_3 (dk_at dksX4_isLedge_0 1 rfl rfl)
theorem dX4_isLedge_2 : decode cX4_isLedge 2 = .ok (.aload_n 0, 1) := dk_42 (dk_at dksX4_isLedge_0 2 rfl rfl)
theorem dX4_isLedge_3 : decode cX4_isLedge 3 = .ok (.getfield 248, 3) := dk_180 0 248 (dk_at dksX4_isLedge_0 3 rfl rfl)
theorem dX4_isLedge_6 : decode cX4_isLedge 6 = .ok (.iconst 1, 1) := dk_4 (dk_at dksX4_isLedge_0 6 rfl rfl)
theorem dX4_isLedge_7 : decode cX4_isLedge 7 = .ok (.isub, 1) := dk_100 (dk_at dksX4_isLedge_0 7 rfl rfl)
theorem dX4_isLedge_8 : decode cX4_isLedge 8 = .ok (.invokestatic 244, 3) := dk_184 0 244 (dk_at dksX4_isLedge_0 8 rfl rfl)
theorem dX4_isLedge_11 : decode cX4_isLedge 11 = .ok (.ireturn, 1) := dk_172 (dk_at dksX4_isLedge_0 11 rfl rfl)
abbrev cX4_spray : ByteArray := prog_23_method_10_code
def yX4_spray : MethodName := ⟨RX4, "spray", "(I)Z"⟩
def dkwX4_spray_1 : List UInt8 := [4, 84, 4, 172]
abbrev dktX4_spray_1 : List UInt8 := dkwX4_spray_1 ++ []
def dkwX4_spray_0 : List UInt8 := [42, 27, 182, 0, 255, 153, 0, 12, 42, 180, 0, 54, 27, 51, 153, 0, 5, 3, 172, 42, 180, 0, 54, 27]
abbrev dktX4_spray_0 : List UInt8 := dkwX4_spray_0 ++ dktX4_spray_1
theorem dksX4_spray_0 : cX4_spray.data.toList.drop 0 = dktX4_spray_0 := by decide +kernel
theorem dksX4_spray_1 : cX4_spray.data.toList.drop 24 = dktX4_spray_1 := dk_seg dksX4_spray_0 24 rfl rfl
theorem dX4_spray_0 : decode cX4_spray 0 = .ok (.aload_n 0, 1) := dk_42 (dk_at dksX4_spray_0 0 rfl rfl)
theorem dX4_spray_1 : decode cX4_spray 1 = .ok (.iload_n 1, 1) := dk_27 (dk_at dksX4_spray_0 1 rfl rfl)
theorem dX4_spray_2 : decode cX4_spray 2 = .ok (.invokevirtual 255, 3) := dk_182 0 255 (dk_at dksX4_spray_0 2 rfl rfl)
theorem dX4_spray_5 : decode cX4_spray 5 = .ok (.ifCond .eq 12, 3) := dk_153 0 12 (dk_at dksX4_spray_0 5 rfl rfl)
theorem dX4_spray_8 : decode cX4_spray 8 = .ok (.aload_n 0, 1) := dk_42 (dk_at dksX4_spray_0 8 rfl rfl)
theorem dX4_spray_9 : decode cX4_spray 9 = .ok (.getfield 54, 3) := dk_180 0 54 (dk_at dksX4_spray_0 9 rfl rfl)
theorem dX4_spray_12 : decode cX4_spray 12 = .ok (.iload_n 1, 1) := dk_27 (dk_at dksX4_spray_0 12 rfl rfl)
theorem dX4_spray_13 : decode cX4_spray 13 = .ok (.baload, 1) := dk_51 (dk_at dksX4_spray_0 13 rfl rfl)
theorem dX4_spray_14 : decode cX4_spray 14 = .ok (.ifCond .eq 5, 3) := dk_153 0 5 (dk_at dksX4_spray_0 14 rfl rfl)
theorem dX4_spray_17 : decode cX4_spray 17 = .ok (.iconst 0, 1) := dk_3 (dk_at dksX4_spray_0 17 rfl rfl)
theorem dX4_spray_18 : decode cX4_spray 18 = .ok (.ireturn, 1) := dk_172 (dk_at dksX4_spray_0 18 rfl rfl)
theorem dX4_spray_19 : decode cX4_spray 19 = .ok (.aload_n 0, 1) := dk_42 (dk_at dksX4_spray_0 19 rfl rfl)
theorem dX4_spray_20 : decode cX4_spray 20 = .ok (.getfield 54, 3) := dk_180 0 54 (dk_at dksX4_spray_0 20 rfl rfl)
theorem dX4_spray_23 : decode cX4_spray 23 = .ok (.iload_n 1, 1) := dk_27 (dk_at dksX4_spray_0 23 rfl rfl)
theorem dX4_spray_24 : decode cX4_spray 24 = .ok (.iconst 1, 1) := dk_4 (dk_at dksX4_spray_1 0 rfl rfl)
theorem dX4_spray_25 : decode cX4_spray 25 = .ok (.bastore, 1) := dk_84 (dk_at dksX4_spray_1 1 rfl rfl)
theorem dX4_spray_26 : decode cX4_spray 26 = .ok (.iconst 1, 1) := dk_4 (dk_at dksX4_spray_1 2 rfl rfl)
theorem dX4_spray_27 : decode cX4_spray 27 = .ok (.ireturn, 1) := dk_172 (dk_at dksX4_spray_1 3 rfl rfl)
abbrev cX4_days : ByteArray := prog_23_method_18_code
def yX4_days : MethodName := ⟨RX4, "days", "(I)I"⟩
def dkwX4_days_1 : List UInt8 := [3, 61, 28, 27, 162, 0, 13, 42, 182, 1, 26, 132, 2, 1, 167, 255, 244, 42, 180, 0, 234, 172]
abbrev dktX4_days_1 : List UInt8 := dkwX4_days_1 ++ []
def dkwX4_days_0 : List UInt8 := [27, 4, 16, 60, 184, 0, 244, 153, 0, 15, 42, 180, 0, 234, 17, 9, 95, 27, 100, 164, 0, 5, 2, 172]
abbrev dktX4_days_0 : List UInt8 := dkwX4_days_0 ++ dktX4_days_1
theorem dksX4_days_0 : cX4_days.data.toList.drop 0 = dktX4_days_0 := by decide +kernel
theorem dksX4_days_1 : cX4_days.data.toList.drop 24 = dktX4_days_1 := dk_seg dksX4_days_0 24 rfl rfl
theorem dX4_days_0 : decode cX4_days 0 = .ok (.iload_n 1, 1) := dk_27 (dk_at dksX4_days_0 0 rfl rfl)
theorem dX4_days_1 : decode cX4_days 1 = .ok (.iconst 1, 1) := dk_4 (dk_at dksX4_days_0 1 rfl rfl)
theorem dX4_days_2 : decode cX4_days 2 = .ok (.bipush 60, 2) := dk_16 60 (dk_at dksX4_days_0 2 rfl rfl)
theorem dX4_days_4 : decode cX4_days 4 = .ok (.invokestatic 244, 3) := dk_184 0 244 (dk_at dksX4_days_0 4 rfl rfl)
theorem dX4_days_7 : decode cX4_days 7 = .ok (.ifCond .eq 15, 3) := dk_153 0 15 (dk_at dksX4_days_0 7 rfl rfl)
theorem dX4_days_10 : decode cX4_days 10 = .ok (.aload_n 0, 1) := dk_42 (dk_at dksX4_days_0 10 rfl rfl)
theorem dX4_days_11 : decode cX4_days 11 = .ok (.getfield 234, 3) := dk_180 0 234 (dk_at dksX4_days_0 11 rfl rfl)
theorem dX4_days_14 : decode cX4_days 14 = .ok (.sipush 2399, 3) := dk_17 9 95 (dk_at dksX4_days_0 14 rfl rfl)
theorem dX4_days_17 : decode cX4_days 17 = .ok (.iload_n 1, 1) := dk_27 (dk_at dksX4_days_0 17 rfl rfl)
theorem dX4_days_18 : decode cX4_days 18 = .ok (.isub, 1) := dk_100 (dk_at dksX4_days_0 18 rfl rfl)
theorem dX4_days_19 : decode cX4_days 19 = .ok (.if_icmp .le 5, 3) := dk_164 0 5 (dk_at dksX4_days_0 19 rfl rfl)
theorem dX4_days_22 : decode cX4_days 22 = .ok (.iconst (-1), 1) := dk_2 (dk_at dksX4_days_0 22 rfl rfl)
theorem dX4_days_23 : decode cX4_days 23 = .ok (.ireturn, 1) := dk_172 (dk_at dksX4_days_0 23 rfl rfl)
theorem dX4_days_24 : decode cX4_days 24 = .ok (.iconst 0, 1) := dk_3 (dk_at dksX4_days_1 0 rfl rfl)
theorem dX4_days_25 : decode cX4_days 25 = .ok (.istore_n 2, 1) := dk_61 (dk_at dksX4_days_1 1 rfl rfl)
theorem dX4_days_26 : decode cX4_days 26 = .ok (.iload_n 2, 1) := dk_28 (dk_at dksX4_days_1 2 rfl rfl)
theorem dX4_days_27 : decode cX4_days 27 = .ok (.iload_n 1, 1) := dk_27 (dk_at dksX4_days_1 3 rfl rfl)
theorem dX4_days_28 : decode cX4_days 28 = .ok (.if_icmp .ge 13, 3) := dk_162 0 13 (dk_at dksX4_days_1 4 rfl rfl)
theorem dX4_days_31 : decode cX4_days 31 = .ok (.aload_n 0, 1) := dk_42 (dk_at dksX4_days_1 7 rfl rfl)
theorem dX4_days_32 : decode cX4_days 32 = .ok (.invokevirtual 282, 3) := dk_182 1 26 (dk_at dksX4_days_1 8 rfl rfl)
theorem dX4_days_35 : decode cX4_days 35 = .ok (.iinc 2 1, 3) := dk_132 2 1 (dk_at dksX4_days_1 11 rfl rfl)
theorem dX4_days_38 : decode cX4_days 38 = .ok (.goto (-12), 3) := dk_167 255 244 (dk_at dksX4_days_1 14 rfl rfl)
theorem dX4_days_41 : decode cX4_days 41 = .ok (.aload_n 0, 1) := dk_42 (dk_at dksX4_days_1 17 rfl rfl)
theorem dX4_days_42 : decode cX4_days 42 = .ok (.getfield 234, 3) := dk_180 0 234 (dk_at dksX4_days_1 18 rfl rfl)
theorem dX4_days_45 : decode cX4_days 45 = .ok (.ireturn, 1) := dk_172 (dk_at dksX4_days_1 21 rfl rfl)
abbrev cX4_goes : ByteArray := prog_23_method_17_code
def yX4_goes : MethodName := ⟨RX4, "goes", "()V"⟩
def dkwX4_goes_1 : List UInt8 := [181, 0, 234, 177]
abbrev dktX4_goes_1 : List UInt8 := dkwX4_goes_1 ++ []
def dkwX4_goes_0 : List UInt8 := [42, 182, 1, 20, 42, 182, 0, 241, 16, 59, 160, 0, 7, 42, 182, 1, 23, 42, 89, 180, 0, 234, 4, 96]
abbrev dktX4_goes_0 : List UInt8 := dkwX4_goes_0 ++ dktX4_goes_1
theorem dksX4_goes_0 : cX4_goes.data.toList.drop 0 = dktX4_goes_0 := by decide +kernel
theorem dksX4_goes_1 : cX4_goes.data.toList.drop 24 = dktX4_goes_1 := dk_seg dksX4_goes_0 24 rfl rfl
theorem dX4_goes_0 : decode cX4_goes 0 = .ok (.aload_n 0, 1) := dk_42 (dk_at dksX4_goes_0 0 rfl rfl)
theorem dX4_goes_1 : decode cX4_goes 1 = .ok (.invokevirtual 276, 3) := dk_182 1 20 (dk_at dksX4_goes_0 1 rfl rfl)
theorem dX4_goes_4 : decode cX4_goes 4 = .ok (.aload_n 0, 1) := dk_42 (dk_at dksX4_goes_0 4 rfl rfl)
theorem dX4_goes_5 : decode cX4_goes 5 = .ok (.invokevirtual 241, 3) := dk_182 0 241 (dk_at dksX4_goes_0 5 rfl rfl)
theorem dX4_goes_8 : decode cX4_goes 8 = .ok (.bipush 59, 2) := dk_16 59 (dk_at dksX4_goes_0 8 rfl rfl)
theorem dX4_goes_10 : decode cX4_goes 10 = .ok (.if_icmp .ne 7, 3) := dk_160 0 7 (dk_at dksX4_goes_0 10 rfl rfl)
theorem dX4_goes_13 : decode cX4_goes 13 = .ok (.aload_n 0, 1) := dk_42 (dk_at dksX4_goes_0 13 rfl rfl)
theorem dX4_goes_14 : decode cX4_goes 14 = .ok (.invokevirtual 279, 3) := dk_182 1 23 (dk_at dksX4_goes_0 14 rfl rfl)
theorem dX4_goes_17 : decode cX4_goes 17 = .ok (.aload_n 0, 1) := dk_42 (dk_at dksX4_goes_0 17 rfl rfl)
theorem dX4_goes_18 : decode cX4_goes 18 = .ok (.dup, 1) := dk_89 (dk_at dksX4_goes_0 18 rfl rfl)
theorem dX4_goes_19 : decode cX4_goes 19 = .ok (.getfield 234, 3) := dk_180 0 234 (dk_at dksX4_goes_0 19 rfl rfl)
theorem dX4_goes_22 : decode cX4_goes 22 = .ok (.iconst 1, 1) := dk_4 (dk_at dksX4_goes_0 22 rfl rfl)
theorem dX4_goes_23 : decode cX4_goes 23 = .ok (.iadd, 1) := dk_96 (dk_at dksX4_goes_0 23 rfl rfl)
theorem dX4_goes_24 : decode cX4_goes 24 = .ok (.putfield 234, 3) := dk_181 0 234 (dk_at dksX4_goes_1 0 rfl rfl)
theorem dX4_goes_27 : decode cX4_goes 27 = .ok (.return_, 1) := dk_177 (dk_at dksX4_goes_1 3 rfl rfl)
abbrev cX4_grows : ByteArray := prog_23_method_11_code
def yX4_grows : MethodName := ⟨RX4, "grows", "()V"⟩
def dkwX4_grows_5 : List UInt8 := [96, 79, 132, 1, 1, 167, 255, 137, 177]
abbrev dktX4_grows_5 : List UInt8 := dkwX4_grows_5 ++ []
def dkwX4_grows_4 : List UInt8 := [180, 0, 32, 27, 92, 46, 29, 96, 79, 42, 180, 0, 35, 27, 92, 46, 29, 42, 180, 0, 20, 28, 46, 104]
abbrev dktX4_grows_4 : List UInt8 := dkwX4_grows_4 ++ dktX4_grows_5
def dkwX4_grows_3 : List UInt8 := [54, 4, 29, 21, 4, 162, 0, 7, 29, 167, 0, 5, 21, 4, 62, 29, 157, 0, 6, 167, 0, 30, 42]
abbrev dktX4_grows_3 : List UInt8 := dkwX4_grows_3 ++ dktX4_grows_4
def dkwX4_grows_2 : List UInt8 := [180, 0, 16, 28, 46, 104, 62, 17, 1, 144, 42, 180, 0, 29, 27, 46, 104, 42, 180, 0, 32, 27, 46, 100]
abbrev dktX4_grows_2 : List UInt8 := dkwX4_grows_2 ++ dktX4_grows_3
def dkwX4_grows_1 : List UInt8 := [182, 1, 2, 167, 0, 12, 42, 182, 1, 2, 8, 96, 16, 6, 112, 61, 42, 180, 0, 29, 27, 46, 42]
abbrev dktX4_grows_1 : List UInt8 := dkwX4_grows_1 ++ dktX4_grows_2
def dkwX4_grows_0 : List UInt8 := [3, 60, 27, 42, 180, 0, 248, 162, 0, 117, 42, 180, 0, 26, 27, 46, 16, 50, 162, 0, 10, 42]
abbrev dktX4_grows_0 : List UInt8 := dkwX4_grows_0 ++ dktX4_grows_1
theorem dksX4_grows_0 : cX4_grows.data.toList.drop 0 = dktX4_grows_0 := by decide +kernel
theorem dksX4_grows_1 : cX4_grows.data.toList.drop 22 = dktX4_grows_1 := dk_seg dksX4_grows_0 22 rfl rfl
theorem dksX4_grows_2 : cX4_grows.data.toList.drop 45 = dktX4_grows_2 := dk_seg dksX4_grows_1 23 rfl rfl
theorem dksX4_grows_3 : cX4_grows.data.toList.drop 69 = dktX4_grows_3 := dk_seg dksX4_grows_2 24 rfl rfl
theorem dksX4_grows_4 : cX4_grows.data.toList.drop 92 = dktX4_grows_4 := dk_seg dksX4_grows_3 23 rfl rfl
theorem dksX4_grows_5 : cX4_grows.data.toList.drop 116 = dktX4_grows_5 := dk_seg dksX4_grows_4 24 rfl rfl
theorem dX4_grows_0 : decode cX4_grows 0 = .ok (.iconst 0, 1) := dk_3 (dk_at dksX4_grows_0 0 rfl rfl)
theorem dX4_grows_1 : decode cX4_grows 1 = .ok (.istore_n 1, 1) := dk_60 (dk_at dksX4_grows_0 1 rfl rfl)
theorem dX4_grows_2 : decode cX4_grows 2 = .ok (.iload_n 1, 1) := dk_27 (dk_at dksX4_grows_0 2 rfl rfl)
theorem dX4_grows_3 : decode cX4_grows 3 = .ok (.aload_n 0, 1) := dk_42 (dk_at dksX4_grows_0 3 rfl rfl)
theorem dX4_grows_4 : decode cX4_grows 4 = .ok (.getfield 248, 3) := dk_180 0 248 (dk_at dksX4_grows_0 4 rfl rfl)
theorem dX4_grows_7 : decode cX4_grows 7 = .ok (.if_icmp .ge 117, 3) := dk_162 0 117 (dk_at dksX4_grows_0 7 rfl rfl)
theorem dX4_grows_10 : decode cX4_grows 10 = .ok (.aload_n 0, 1) := dk_42 (dk_at dksX4_grows_0 10 rfl rfl)
theorem dX4_grows_11 : decode cX4_grows 11 = .ok (.getfield 26, 3) := dk_180 0 26 (dk_at dksX4_grows_0 11 rfl rfl)
theorem dX4_grows_14 : decode cX4_grows 14 = .ok (.iload_n 1, 1) := dk_27 (dk_at dksX4_grows_0 14 rfl rfl)
theorem dX4_grows_15 : decode cX4_grows 15 = .ok (.iaload, 1) := dk_46 (dk_at dksX4_grows_0 15 rfl rfl)
theorem dX4_grows_16 : decode cX4_grows 16 = .ok (.bipush 50, 2) := dk_16 50 (dk_at dksX4_grows_0 16 rfl rfl)
theorem dX4_grows_18 : decode cX4_grows 18 = .ok (.if_icmp .ge 10, 3) := dk_162 0 10 (dk_at dksX4_grows_0 18 rfl rfl)
theorem dX4_grows_21 : decode cX4_grows 21 = .ok (.aload_n 0, 1) := dk_42 (dk_at dksX4_grows_0 21 rfl rfl)
theorem dX4_grows_22 : decode cX4_grows 22 = .ok (.invokevirtual 258, 3) := dk_182 1 2 (dk_at dksX4_grows_1 0 rfl rfl)
theorem dX4_grows_25 : decode cX4_grows 25 = .ok (.goto 12, 3) := dk_167 0 12 (dk_at dksX4_grows_1 3 rfl rfl)
theorem dX4_grows_28 : decode cX4_grows 28 = .ok (.aload_n 0, 1) := dk_42 (dk_at dksX4_grows_1 6 rfl rfl)
theorem dX4_grows_29 : decode cX4_grows 29 = .ok (.invokevirtual 258, 3) := dk_182 1 2 (dk_at dksX4_grows_1 7 rfl rfl)
theorem dX4_grows_32 : decode cX4_grows 32 = .ok (.iconst 5, 1) := dk_8 (dk_at dksX4_grows_1 10 rfl rfl)
theorem dX4_grows_33 : decode cX4_grows 33 = .ok (.iadd, 1) := dk_96 (dk_at dksX4_grows_1 11 rfl rfl)
theorem dX4_grows_34 : decode cX4_grows 34 = .ok (.bipush 6, 2) := dk_16 6 (dk_at dksX4_grows_1 12 rfl rfl)
theorem dX4_grows_36 : decode cX4_grows 36 = .ok (.irem, 1) := dk_112 (dk_at dksX4_grows_1 14 rfl rfl)
theorem dX4_grows_37 : decode cX4_grows 37 = .ok (.istore_n 2, 1) := dk_61 (dk_at dksX4_grows_1 15 rfl rfl)
theorem dX4_grows_38 : decode cX4_grows 38 = .ok (.aload_n 0, 1) := dk_42 (dk_at dksX4_grows_1 16 rfl rfl)
theorem dX4_grows_39 : decode cX4_grows 39 = .ok (.getfield 29, 3) := dk_180 0 29 (dk_at dksX4_grows_1 17 rfl rfl)
theorem dX4_grows_42 : decode cX4_grows 42 = .ok (.iload_n 1, 1) := dk_27 (dk_at dksX4_grows_1 20 rfl rfl)
theorem dX4_grows_43 : decode cX4_grows 43 = .ok (.iaload, 1) := dk_46 (dk_at dksX4_grows_1 21 rfl rfl)
theorem dX4_grows_44 : decode cX4_grows 44 = .ok (.aload_n 0, 1) := dk_42 (dk_at dksX4_grows_1 22 rfl rfl)
theorem dX4_grows_45 : decode cX4_grows 45 = .ok (.getfield 16, 3) := dk_180 0 16 (dk_at dksX4_grows_2 0 rfl rfl)
theorem dX4_grows_48 : decode cX4_grows 48 = .ok (.iload_n 2, 1) := dk_28 (dk_at dksX4_grows_2 3 rfl rfl)
theorem dX4_grows_49 : decode cX4_grows 49 = .ok (.iaload, 1) := dk_46 (dk_at dksX4_grows_2 4 rfl rfl)
theorem dX4_grows_50 : decode cX4_grows 50 = .ok (.imul, 1) := dk_104 (dk_at dksX4_grows_2 5 rfl rfl)
theorem dX4_grows_51 : decode cX4_grows 51 = .ok (.istore_n 3, 1) := dk_62 (dk_at dksX4_grows_2 6 rfl rfl)
theorem dX4_grows_52 : decode cX4_grows 52 = .ok (.sipush 400, 3) := dk_17 1 144 (dk_at dksX4_grows_2 7 rfl rfl)
theorem dX4_grows_55 : decode cX4_grows 55 = .ok (.aload_n 0, 1) := dk_42 (dk_at dksX4_grows_2 10 rfl rfl)
theorem dX4_grows_56 : decode cX4_grows 56 = .ok (.getfield 29, 3) := dk_180 0 29 (dk_at dksX4_grows_2 11 rfl rfl)
theorem dX4_grows_59 : decode cX4_grows 59 = .ok (.iload_n 1, 1) := dk_27 (dk_at dksX4_grows_2 14 rfl rfl)
theorem dX4_grows_60 : decode cX4_grows 60 = .ok (.iaload, 1) := dk_46 (dk_at dksX4_grows_2 15 rfl rfl)
theorem dX4_grows_61 : decode cX4_grows 61 = .ok (.imul, 1) := dk_104 (dk_at dksX4_grows_2 16 rfl rfl)
theorem dX4_grows_62 : decode cX4_grows 62 = .ok (.aload_n 0, 1) := dk_42 (dk_at dksX4_grows_2 17 rfl rfl)
theorem dX4_grows_63 : decode cX4_grows 63 = .ok (.getfield 32, 3) := dk_180 0 32 (dk_at dksX4_grows_2 18 rfl rfl)
theorem dX4_grows_66 : decode cX4_grows 66 = .ok (.iload_n 1, 1) := dk_27 (dk_at dksX4_grows_2 21 rfl rfl)
theorem dX4_grows_67 : decode cX4_grows 67 = .ok (.iaload, 1) := dk_46 (dk_at dksX4_grows_2 22 rfl rfl)
theorem dX4_grows_68 : decode cX4_grows 68 = .ok (.isub, 1) := dk_100 (dk_at dksX4_grows_2 23 rfl rfl)
theorem dX4_grows_69 : decode cX4_grows 69 = .ok (.istore 4, 2) := dk_54 4 (dk_at dksX4_grows_3 0 rfl rfl)
theorem dX4_grows_71 : decode cX4_grows 71 = .ok (.iload_n 3, 1) := dk_29 (dk_at dksX4_grows_3 2 rfl rfl)
theorem dX4_grows_72 : decode cX4_grows 72 = .ok (.iload 4, 2) := dk_21 4 (dk_at dksX4_grows_3 3 rfl rfl)
theorem dX4_grows_74 : decode cX4_grows 74 = .ok (.if_icmp .ge 7, 3) := dk_162 0 7 (dk_at dksX4_grows_3 5 rfl rfl)
theorem dX4_grows_77 : decode cX4_grows 77 = .ok (.iload_n 3, 1) := dk_29 (dk_at dksX4_grows_3 8 rfl rfl)
theorem dX4_grows_78 : decode cX4_grows 78 = .ok (.goto 5, 3) := dk_167 0 5 (dk_at dksX4_grows_3 9 rfl rfl)
theorem dX4_grows_81 : decode cX4_grows 81 = .ok (.iload 4, 2) := dk_21 4 (dk_at dksX4_grows_3 12 rfl rfl)
theorem dX4_grows_83 : decode cX4_grows 83 = .ok (.istore_n 3, 1) := dk_62 (dk_at dksX4_grows_3 14 rfl rfl)
theorem dX4_grows_84 : decode cX4_grows 84 = .ok (.iload_n 3, 1) := dk_29 (dk_at dksX4_grows_3 15 rfl rfl)
theorem dX4_grows_85 : decode cX4_grows 85 = .ok (.ifCond .gt 6, 3) := dk_157 0 6 (dk_at dksX4_grows_3 16 rfl rfl)
theorem dX4_grows_88 : decode cX4_grows 88 = .ok (.goto 30, 3) := dk_167 0 30 (dk_at dksX4_grows_3 19 rfl rfl)
theorem dX4_grows_91 : decode cX4_grows 91 = .ok (.aload_n 0, 1) := dk_42 (dk_at dksX4_grows_3 22 rfl rfl)
theorem dX4_grows_92 : decode cX4_grows 92 = .ok (.getfield 32, 3) := dk_180 0 32 (dk_at dksX4_grows_4 0 rfl rfl)
theorem dX4_grows_95 : decode cX4_grows 95 = .ok (.iload_n 1, 1) := dk_27 (dk_at dksX4_grows_4 3 rfl rfl)
theorem dX4_grows_96 : decode cX4_grows 96 = .ok (.dup2, 1) := dk_92 (dk_at dksX4_grows_4 4 rfl rfl)
theorem dX4_grows_97 : decode cX4_grows 97 = .ok (.iaload, 1) := dk_46 (dk_at dksX4_grows_4 5 rfl rfl)
theorem dX4_grows_98 : decode cX4_grows 98 = .ok (.iload_n 3, 1) := dk_29 (dk_at dksX4_grows_4 6 rfl rfl)
theorem dX4_grows_99 : decode cX4_grows 99 = .ok (.iadd, 1) := dk_96 (dk_at dksX4_grows_4 7 rfl rfl)
theorem dX4_grows_100 : decode cX4_grows 100 = .ok (.iastore, 1) := dk_79 (dk_at dksX4_grows_4 8 rfl rfl)
theorem dX4_grows_101 : decode cX4_grows 101 = .ok (.aload_n 0, 1) := dk_42 (dk_at dksX4_grows_4 9 rfl rfl)
theorem dX4_grows_102 : decode cX4_grows 102 = .ok (.getfield 35, 3) := dk_180 0 35 (dk_at dksX4_grows_4 10 rfl rfl)
theorem dX4_grows_105 : decode cX4_grows 105 = .ok (.iload_n 1, 1) := dk_27 (dk_at dksX4_grows_4 13 rfl rfl)
theorem dX4_grows_106 : decode cX4_grows 106 = .ok (.dup2, 1) := dk_92 (dk_at dksX4_grows_4 14 rfl rfl)
theorem dX4_grows_107 : decode cX4_grows 107 = .ok (.iaload, 1) := dk_46 (dk_at dksX4_grows_4 15 rfl rfl)
theorem dX4_grows_108 : decode cX4_grows 108 = .ok (.iload_n 3, 1) := dk_29 (dk_at dksX4_grows_4 16 rfl rfl)
theorem dX4_grows_109 : decode cX4_grows 109 = .ok (.aload_n 0, 1) := dk_42 (dk_at dksX4_grows_4 17 rfl rfl)
theorem dX4_grows_110 : decode cX4_grows 110 = .ok (.getfield 20, 3) := dk_180 0 20 (dk_at dksX4_grows_4 18 rfl rfl)
theorem dX4_grows_113 : decode cX4_grows 113 = .ok (.iload_n 2, 1) := dk_28 (dk_at dksX4_grows_4 21 rfl rfl)
theorem dX4_grows_114 : decode cX4_grows 114 = .ok (.iaload, 1) := dk_46 (dk_at dksX4_grows_4 22 rfl rfl)
theorem dX4_grows_115 : decode cX4_grows 115 = .ok (.imul, 1) := dk_104 (dk_at dksX4_grows_4 23 rfl rfl)
theorem dX4_grows_116 : decode cX4_grows 116 = .ok (.iadd, 1) := dk_96 (dk_at dksX4_grows_5 0 rfl rfl)
theorem dX4_grows_117 : decode cX4_grows 117 = .ok (.iastore, 1) := dk_79 (dk_at dksX4_grows_5 1 rfl rfl)
theorem dX4_grows_118 : decode cX4_grows 118 = .ok (.iinc 1 1, 3) := dk_132 1 1 (dk_at dksX4_grows_5 2 rfl rfl)
theorem dX4_grows_121 : decode cX4_grows 121 = .ok (.goto (-119), 3) := dk_167 255 137 (dk_at dksX4_grows_5 5 rfl rfl)
theorem dX4_grows_124 : decode cX4_grows 124 = .ok (.return_, 1) := dk_177 (dk_at dksX4_grows_5 8 rfl rfl)
abbrev cX4_month : ByteArray := prog_23_method_5_code
def yX4_month : MethodName := ⟨RX4, "month", "()I"⟩
def dkwX4_month_0 : List UInt8 := [6, 42, 182, 0, 237, 5, 112, 104, 42, 182, 0, 241, 16, 20, 108, 96, 172]
abbrev dktX4_month_0 : List UInt8 := dkwX4_month_0 ++ []
theorem dksX4_month_0 : cX4_month.data.toList.drop 0 = dktX4_month_0 := by decide +kernel
theorem dX4_month_0 : decode cX4_month 0 = .ok (.iconst 3, 1) := dk_6 (dk_at dksX4_month_0 0 rfl rfl)
theorem dX4_month_1 : decode cX4_month 1 = .ok (.aload_n 0, 1) := dk_42 (dk_at dksX4_month_0 1 rfl rfl)
theorem dX4_month_2 : decode cX4_month 2 = .ok (.invokevirtual 237, 3) := dk_182 0 237 (dk_at dksX4_month_0 2 rfl rfl)
theorem dX4_month_5 : decode cX4_month 5 = .ok (.iconst 2, 1) := dk_5 (dk_at dksX4_month_0 5 rfl rfl)
theorem dX4_month_6 : decode cX4_month 6 = .ok (.irem, 1) := dk_112 (dk_at dksX4_month_0 6 rfl rfl)
theorem dX4_month_7 : decode cX4_month 7 = .ok (.imul, 1) := dk_104 (dk_at dksX4_month_0 7 rfl rfl)
theorem dX4_month_8 : decode cX4_month 8 = .ok (.aload_n 0, 1) := dk_42 (dk_at dksX4_month_0 8 rfl rfl)
theorem dX4_month_9 : decode cX4_month 9 = .ok (.invokevirtual 241, 3) := dk_182 0 241 (dk_at dksX4_month_0 9 rfl rfl)
theorem dX4_month_12 : decode cX4_month 12 = .ok (.bipush 20, 2) := dk_16 20 (dk_at dksX4_month_0 12 rfl rfl)
theorem dX4_month_14 : decode cX4_month 14 = .ok (.idiv, 1) := dk_108 (dk_at dksX4_month_0 14 rfl rfl)
theorem dX4_month_15 : decode cX4_month 15 = .ok (.iadd, 1) := dk_96 (dk_at dksX4_month_0 15 rfl rfl)
theorem dX4_month_16 : decode cX4_month 16 = .ok (.ireturn, 1) := dk_172 (dk_at dksX4_month_0 16 rfl rfl)
abbrev cX4_season : ByteArray := prog_23_method_3_code
def yX4_season : MethodName := ⟨RX4, "season", "()I"⟩
def dkwX4_season_0 : List UInt8 := [42, 180, 0, 234, 16, 60, 108, 172]
abbrev dktX4_season_0 : List UInt8 := dkwX4_season_0 ++ []
theorem dksX4_season_0 : cX4_season.data.toList.drop 0 = dktX4_season_0 := by decide +kernel
theorem dX4_season_0 : decode cX4_season 0 = .ok (.aload_n 0, 1) := dk_42 (dk_at dksX4_season_0 0 rfl rfl)
theorem dX4_season_1 : decode cX4_season 1 = .ok (.getfield 234, 3) := dk_180 0 234 (dk_at dksX4_season_0 1 rfl rfl)
theorem dX4_season_4 : decode cX4_season 4 = .ok (.bipush 60, 2) := dk_16 60 (dk_at dksX4_season_0 4 rfl rfl)
theorem dX4_season_6 : decode cX4_season 6 = .ok (.idiv, 1) := dk_108 (dk_at dksX4_season_0 6 rfl rfl)
theorem dX4_season_7 : decode cX4_season 7 = .ok (.ireturn, 1) := dk_172 (dk_at dksX4_season_0 7 rfl rfl)
abbrev cX4_day : ByteArray := prog_23_method_4_code
def yX4_day : MethodName := ⟨RX4, "day", "()I"⟩
def dkwX4_day_0 : List UInt8 := [42, 180, 0, 234, 16, 60, 112, 172]
abbrev dktX4_day_0 : List UInt8 := dkwX4_day_0 ++ []
theorem dksX4_day_0 : cX4_day.data.toList.drop 0 = dktX4_day_0 := by decide +kernel
theorem dX4_day_0 : decode cX4_day 0 = .ok (.aload_n 0, 1) := dk_42 (dk_at dksX4_day_0 0 rfl rfl)
theorem dX4_day_1 : decode cX4_day 1 = .ok (.getfield 234, 3) := dk_180 0 234 (dk_at dksX4_day_0 1 rfl rfl)
theorem dX4_day_4 : decode cX4_day 4 = .ok (.bipush 60, 2) := dk_16 60 (dk_at dksX4_day_0 4 rfl rfl)
theorem dX4_day_6 : decode cX4_day 6 = .ok (.irem, 1) := dk_112 (dk_at dksX4_day_0 6 rfl rfl)
theorem dX4_day_7 : decode cX4_day 7 = .ok (.ireturn, 1) := dk_172 (dk_at dksX4_day_0 7 rfl rfl)
abbrev cX4_ends : ByteArray := prog_23_method_14_code
def yX4_ends : MethodName := ⟨RX4, "ends", "()V"⟩
def dkwX4_ends_10 : List UInt8 := [42, 180, 0, 54, 27, 3, 84, 132, 1, 1, 167, 255, 209, 177]
abbrev dktX4_ends_10 : List UInt8 := dkwX4_ends_10 ++ []
def dkwX4_ends_9 : List UInt8 := [3, 79, 42, 180, 0, 35, 27, 3, 79, 42, 180, 0, 38, 27, 16, 100, 79, 42, 180, 0, 50, 27, 3, 84]
abbrev dktX4_ends_9 : List UInt8 := dkwX4_ends_9 ++ dktX4_ends_10
def dkwX4_ends_8 : List UInt8 := [182, 1, 9, 132, 1, 1, 167, 255, 231, 3, 60, 27, 42, 180, 0, 248, 162, 0, 45, 42, 180, 0, 32, 27]
abbrev dktX4_ends_8 : List UInt8 := dkwX4_ends_8 ++ dktX4_ends_9
def dkwX4_ends_7 : List UInt8 := [167, 255, 98, 3, 60, 27, 42, 180, 0, 248, 162, 0, 23, 42, 180, 0, 29, 27, 46, 154, 0, 8, 42, 27]
abbrev dktX4_ends_7 : List UInt8 := dkwX4_ends_7 ++ dktX4_ends_8
def dkwX4_ends_6 : List UInt8 := [184, 1, 5, 79, 42, 180, 0, 47, 27, 46, 5, 162, 0, 10, 42, 180, 0, 47, 27, 5, 79, 132, 1, 1]
abbrev dktX4_ends_6 : List UInt8 := dkwX4_ends_6 ++ dktX4_ends_7
def dkwX4_ends_5 : List UInt8 := [180, 0, 47, 27, 46, 158, 0, 22, 42, 180, 0, 47, 27, 42, 180, 0, 47, 27, 46, 4, 96, 28, 100]
abbrev dktX4_ends_5 : List UInt8 := dkwX4_ends_5 ++ dktX4_ends_6
def dkwX4_ends_4 : List UInt8 := [158, 0, 22, 42, 180, 0, 44, 27, 42, 180, 0, 44, 27, 46, 5, 100, 28, 100, 184, 1, 5, 79, 42]
abbrev dktX4_ends_4 : List UInt8 := dkwX4_ends_4 ++ dktX4_ends_5
def dkwX4_ends_3 : List UInt8 := [164, 0, 7, 3, 167, 0, 5, 16, 254, 96, 28, 100, 184, 1, 5, 79, 42, 180, 0, 44, 27, 46]
abbrev dktX4_ends_3 : List UInt8 := dkwX4_ends_3 ++ dktX4_ends_4
def dkwX4_ends_2 : List UInt8 := [180, 0, 38, 27, 46, 16, 49, 164, 0, 7, 4, 167, 0, 20, 42, 180, 0, 38, 27, 46, 16, 24]
abbrev dktX4_ends_2 : List UInt8 := dkwX4_ends_2 ++ dktX4_ends_3
def dkwX4_ends_1 : List UInt8 := [61, 42, 180, 0, 29, 27, 46, 158, 0, 53, 42, 180, 0, 29, 27, 42, 180, 0, 29, 27, 46, 42]
abbrev dktX4_ends_1 : List UInt8 := dkwX4_ends_1 ++ dktX4_ends_2
def dkwX4_ends_0 : List UInt8 := [3, 60, 27, 42, 180, 0, 248, 162, 0, 156, 42, 180, 0, 54, 27, 51, 153, 0, 7, 6, 167, 0, 4, 3]
abbrev dktX4_ends_0 : List UInt8 := dkwX4_ends_0 ++ dktX4_ends_1
theorem dksX4_ends_0 : cX4_ends.data.toList.drop 0 = dktX4_ends_0 := by decide +kernel
theorem dksX4_ends_1 : cX4_ends.data.toList.drop 24 = dktX4_ends_1 := dk_seg dksX4_ends_0 24 rfl rfl
theorem dksX4_ends_2 : cX4_ends.data.toList.drop 46 = dktX4_ends_2 := dk_seg dksX4_ends_1 22 rfl rfl
theorem dksX4_ends_3 : cX4_ends.data.toList.drop 68 = dktX4_ends_3 := dk_seg dksX4_ends_2 22 rfl rfl
theorem dksX4_ends_4 : cX4_ends.data.toList.drop 90 = dktX4_ends_4 := dk_seg dksX4_ends_3 22 rfl rfl
theorem dksX4_ends_5 : cX4_ends.data.toList.drop 113 = dktX4_ends_5 := dk_seg dksX4_ends_4 23 rfl rfl
theorem dksX4_ends_6 : cX4_ends.data.toList.drop 136 = dktX4_ends_6 := dk_seg dksX4_ends_5 23 rfl rfl
theorem dksX4_ends_7 : cX4_ends.data.toList.drop 160 = dktX4_ends_7 := dk_seg dksX4_ends_6 24 rfl rfl
theorem dksX4_ends_8 : cX4_ends.data.toList.drop 184 = dktX4_ends_8 := dk_seg dksX4_ends_7 24 rfl rfl
theorem dksX4_ends_9 : cX4_ends.data.toList.drop 208 = dktX4_ends_9 := dk_seg dksX4_ends_8 24 rfl rfl
theorem dksX4_ends_10 : cX4_ends.data.toList.drop 232 = dktX4_ends_10 := dk_seg dksX4_ends_9 24 rfl rfl
theorem dX4_ends_0 : decode cX4_ends 0 = .ok (.iconst 0, 1) := dk_3 (dk_at dksX4_ends_0 0 rfl rfl)
theorem dX4_ends_1 : decode cX4_ends 1 = .ok (.istore_n 1, 1) := dk_60 (dk_at dksX4_ends_0 1 rfl rfl)
theorem dX4_ends_2 : decode cX4_ends 2 = .ok (.iload_n 1, 1) := dk_27 (dk_at dksX4_ends_0 2 rfl rfl)
theorem dX4_ends_3 : decode cX4_ends 3 = .ok (.aload_n 0, 1) := dk_42 (dk_at dksX4_ends_0 3 rfl rfl)
theorem dX4_ends_4 : decode cX4_ends 4 = .ok (.getfield 248, 3) := dk_180 0 248 (dk_at dksX4_ends_0 4 rfl rfl)
theorem dX4_ends_7 : decode cX4_ends 7 = .ok (.if_icmp .ge 156, 3) := dk_162 0 156 (dk_at dksX4_ends_0 7 rfl rfl)
theorem dX4_ends_10 : decode cX4_ends 10 = .ok (.aload_n 0, 1) := dk_42 (dk_at dksX4_ends_0 10 rfl rfl)
theorem dX4_ends_11 : decode cX4_ends 11 = .ok (.getfield 54, 3) := dk_180 0 54 (dk_at dksX4_ends_0 11 rfl rfl)
theorem dX4_ends_14 : decode cX4_ends 14 = .ok (.iload_n 1, 1) := dk_27 (dk_at dksX4_ends_0 14 rfl rfl)
theorem dX4_ends_15 : decode cX4_ends 15 = .ok (.baload, 1) := dk_51 (dk_at dksX4_ends_0 15 rfl rfl)
theorem dX4_ends_16 : decode cX4_ends 16 = .ok (.ifCond .eq 7, 3) := dk_153 0 7 (dk_at dksX4_ends_0 16 rfl rfl)
theorem dX4_ends_19 : decode cX4_ends 19 = .ok (.iconst 3, 1) := dk_6 (dk_at dksX4_ends_0 19 rfl rfl)
theorem dX4_ends_20 : decode cX4_ends 20 = .ok (.goto 4, 3) := dk_167 0 4 (dk_at dksX4_ends_0 20 rfl rfl)
theorem dX4_ends_23 : decode cX4_ends 23 = .ok (.iconst 0, 1) := dk_3 (dk_at dksX4_ends_0 23 rfl rfl)
theorem dX4_ends_24 : decode cX4_ends 24 = .ok (.istore_n 2, 1) := dk_61 (dk_at dksX4_ends_1 0 rfl rfl)
theorem dX4_ends_25 : decode cX4_ends 25 = .ok (.aload_n 0, 1) := dk_42 (dk_at dksX4_ends_1 1 rfl rfl)
theorem dX4_ends_26 : decode cX4_ends 26 = .ok (.getfield 29, 3) := dk_180 0 29 (dk_at dksX4_ends_1 2 rfl rfl)
theorem dX4_ends_29 : decode cX4_ends 29 = .ok (.iload_n 1, 1) := dk_27 (dk_at dksX4_ends_1 5 rfl rfl)
theorem dX4_ends_30 : decode cX4_ends 30 = .ok (.iaload, 1) := dk_46 (dk_at dksX4_ends_1 6 rfl rfl)
theorem dX4_ends_31 : decode cX4_ends 31 = .ok (.ifCond .le 53, 3) := dk_158 0 53 (dk_at dksX4_ends_1 7 rfl rfl)
theorem dX4_ends_34 : decode cX4_ends 34 = .ok (.aload_n 0, 1) := dk_42 (dk_at dksX4_ends_1 10 rfl rfl)
theorem dX4_ends_35 : decode cX4_ends 35 = .ok (.getfield 29, 3) := dk_180 0 29 (dk_at dksX4_ends_1 11 rfl rfl)
theorem dX4_ends_38 : decode cX4_ends 38 = .ok (.iload_n 1, 1) := dk_27 (dk_at dksX4_ends_1 14 rfl rfl)
theorem dX4_ends_39 : decode cX4_ends 39 = .ok (.aload_n 0, 1) := dk_42 (dk_at dksX4_ends_1 15 rfl rfl)
theorem dX4_ends_40 : decode cX4_ends 40 = .ok (.getfield 29, 3) := dk_180 0 29 (dk_at dksX4_ends_1 16 rfl rfl)
theorem dX4_ends_43 : decode cX4_ends 43 = .ok (.iload_n 1, 1) := dk_27 (dk_at dksX4_ends_1 19 rfl rfl)
theorem dX4_ends_44 : decode cX4_ends 44 = .ok (.iaload, 1) := dk_46 (dk_at dksX4_ends_1 20 rfl rfl)
theorem dX4_ends_45 : decode cX4_ends 45 = .ok (.aload_n 0, 1) := dk_42 (dk_at dksX4_ends_1 21 rfl rfl)
theorem dX4_ends_46 : decode cX4_ends 46 = .ok (.getfield 38, 3) := dk_180 0 38 (dk_at dksX4_ends_2 0 rfl rfl)
theorem dX4_ends_49 : decode cX4_ends 49 = .ok (.iload_n 1, 1) := dk_27 (dk_at dksX4_ends_2 3 rfl rfl)
theorem dX4_ends_50 : decode cX4_ends 50 = .ok (.iaload, 1) := dk_46 (dk_at dksX4_ends_2 4 rfl rfl)
theorem dX4_ends_51 : decode cX4_ends 51 = .ok (.bipush 49, 2) := dk_16 49 (dk_at dksX4_ends_2 5 rfl rfl)
theorem dX4_ends_53 : decode cX4_ends 53 = .ok (.if_icmp .le 7, 3) := dk_164 0 7 (dk_at dksX4_ends_2 7 rfl rfl)
theorem dX4_ends_56 : decode cX4_ends 56 = .ok (.iconst 1, 1) := dk_4 (dk_at dksX4_ends_2 10 rfl rfl)
theorem dX4_ends_57 : decode cX4_ends 57 = .ok (.goto 20, 3) := dk_167 0 20 (dk_at dksX4_ends_2 11 rfl rfl)
theorem dX4_ends_60 : decode cX4_ends 60 = .ok (.aload_n 0, 1) := dk_42 (dk_at dksX4_ends_2 14 rfl rfl)
theorem dX4_ends_61 : decode cX4_ends 61 = .ok (.getfield 38, 3) := dk_180 0 38 (dk_at dksX4_ends_2 15 rfl rfl)
theorem dX4_ends_64 : decode cX4_ends 64 = .ok (.iload_n 1, 1) := dk_27 (dk_at dksX4_ends_2 18 rfl rfl)
theorem dX4_ends_65 : decode cX4_ends 65 = .ok (.iaload, 1) := dk_46 (dk_at dksX4_ends_2 19 rfl rfl)
theorem dX4_ends_66 : decode cX4_ends 66 = .ok (.bipush 24, 2) := dk_16 24 (dk_at dksX4_ends_2 20 rfl rfl)
theorem dX4_ends_68 : decode cX4_ends 68 = .ok (.if_icmp .le 7, 3) := dk_164 0 7 (dk_at dksX4_ends_3 0 rfl rfl)
theorem dX4_ends_71 : decode cX4_ends 71 = .ok (.iconst 0, 1) := dk_3 (dk_at dksX4_ends_3 3 rfl rfl)
theorem dX4_ends_72 : decode cX4_ends 72 = .ok (.goto 5, 3) := dk_167 0 5 (dk_at dksX4_ends_3 4 rfl rfl)
theorem dX4_ends_75 : decode cX4_ends 75 = .ok (.bipush (-2), 2) := dk_16 254 (dk_at dksX4_ends_3 7 rfl rfl)
theorem dX4_ends_77 : decode cX4_ends 77 = .ok (.iadd, 1) := dk_96 (dk_at dksX4_ends_3 9 rfl rfl)
theorem dX4_ends_78 : decode cX4_ends 78 = .ok (.iload_n 2, 1) := dk_28 (dk_at dksX4_ends_3 10 rfl rfl)
theorem dX4_ends_79 : decode cX4_ends 79 = .ok (.isub, 1) := dk_100 (dk_at dksX4_ends_3 11 rfl rfl)
theorem dX4_ends_80 : decode cX4_ends 80 = .ok (.invokestatic 261, 3) := dk_184 1 5 (dk_at dksX4_ends_3 12 rfl rfl)
theorem dX4_ends_83 : decode cX4_ends 83 = .ok (.iastore, 1) := dk_79 (dk_at dksX4_ends_3 15 rfl rfl)
theorem dX4_ends_84 : decode cX4_ends 84 = .ok (.aload_n 0, 1) := dk_42 (dk_at dksX4_ends_3 16 rfl rfl)
theorem dX4_ends_85 : decode cX4_ends 85 = .ok (.getfield 44, 3) := dk_180 0 44 (dk_at dksX4_ends_3 17 rfl rfl)
theorem dX4_ends_88 : decode cX4_ends 88 = .ok (.iload_n 1, 1) := dk_27 (dk_at dksX4_ends_3 20 rfl rfl)
theorem dX4_ends_89 : decode cX4_ends 89 = .ok (.iaload, 1) := dk_46 (dk_at dksX4_ends_3 21 rfl rfl)
theorem dX4_ends_90 : decode cX4_ends 90 = .ok (.ifCond .le 22, 3) := dk_158 0 22 (dk_at dksX4_ends_4 0 rfl rfl)
theorem dX4_ends_93 : decode cX4_ends 93 = .ok (.aload_n 0, 1) := dk_42 (dk_at dksX4_ends_4 3 rfl rfl)
theorem dX4_ends_94 : decode cX4_ends 94 = .ok (.getfield 44, 3) := dk_180 0 44 (dk_at dksX4_ends_4 4 rfl rfl)
theorem dX4_ends_97 : decode cX4_ends 97 = .ok (.iload_n 1, 1) := dk_27 (dk_at dksX4_ends_4 7 rfl rfl)
theorem dX4_ends_98 : decode cX4_ends 98 = .ok (.aload_n 0, 1) := dk_42 (dk_at dksX4_ends_4 8 rfl rfl)
theorem dX4_ends_99 : decode cX4_ends 99 = .ok (.getfield 44, 3) := dk_180 0 44 (dk_at dksX4_ends_4 9 rfl rfl)
theorem dX4_ends_102 : decode cX4_ends 102 = .ok (.iload_n 1, 1) := dk_27 (dk_at dksX4_ends_4 12 rfl rfl)
theorem dX4_ends_103 : decode cX4_ends 103 = .ok (.iaload, 1) := dk_46 (dk_at dksX4_ends_4 13 rfl rfl)
theorem dX4_ends_104 : decode cX4_ends 104 = .ok (.iconst 2, 1) := dk_5 (dk_at dksX4_ends_4 14 rfl rfl)
theorem dX4_ends_105 : decode cX4_ends 105 = .ok (.isub, 1) := dk_100 (dk_at dksX4_ends_4 15 rfl rfl)
theorem dX4_ends_106 : decode cX4_ends 106 = .ok (.iload_n 2, 1) := dk_28 (dk_at dksX4_ends_4 16 rfl rfl)
theorem dX4_ends_107 : decode cX4_ends 107 = .ok (.isub, 1) := dk_100 (dk_at dksX4_ends_4 17 rfl rfl)
theorem dX4_ends_108 : decode cX4_ends 108 = .ok (.invokestatic 261, 3) := dk_184 1 5 (dk_at dksX4_ends_4 18 rfl rfl)
theorem dX4_ends_111 : decode cX4_ends 111 = .ok (.iastore, 1) := dk_79 (dk_at dksX4_ends_4 21 rfl rfl)
theorem dX4_ends_112 : decode cX4_ends 112 = .ok (.aload_n 0, 1) := dk_42 (dk_at dksX4_ends_4 22 rfl rfl)
theorem dX4_ends_113 : decode cX4_ends 113 = .ok (.getfield 47, 3) := dk_180 0 47 (dk_at dksX4_ends_5 0 rfl rfl)
theorem dX4_ends_116 : decode cX4_ends 116 = .ok (.iload_n 1, 1) := dk_27 (dk_at dksX4_ends_5 3 rfl rfl)
theorem dX4_ends_117 : decode cX4_ends 117 = .ok (.iaload, 1) := dk_46 (dk_at dksX4_ends_5 4 rfl rfl)
theorem dX4_ends_118 : decode cX4_ends 118 = .ok (.ifCond .le 22, 3) := dk_158 0 22 (dk_at dksX4_ends_5 5 rfl rfl)
theorem dX4_ends_121 : decode cX4_ends 121 = .ok (.aload_n 0, 1) := dk_42 (dk_at dksX4_ends_5 8 rfl rfl)
theorem dX4_ends_122 : decode cX4_ends 122 = .ok (.getfield 47, 3) := dk_180 0 47 (dk_at dksX4_ends_5 9 rfl rfl)
theorem dX4_ends_125 : decode cX4_ends 125 = .ok (.iload_n 1, 1) := dk_27 (dk_at dksX4_ends_5 12 rfl rfl)
theorem dX4_ends_126 : decode cX4_ends 126 = .ok (.aload_n 0, 1) := dk_42 (dk_at dksX4_ends_5 13 rfl rfl)
theorem dX4_ends_127 : decode cX4_ends 127 = .ok (.getfield 47, 3) := dk_180 0 47 (dk_at dksX4_ends_5 14 rfl rfl)
theorem dX4_ends_130 : decode cX4_ends 130 = .ok (.iload_n 1, 1) := dk_27 (dk_at dksX4_ends_5 17 rfl rfl)
theorem dX4_ends_131 : decode cX4_ends 131 = .ok (.iaload, 1) := dk_46 (dk_at dksX4_ends_5 18 rfl rfl)
theorem dX4_ends_132 : decode cX4_ends 132 = .ok (.iconst 1, 1) := dk_4 (dk_at dksX4_ends_5 19 rfl rfl)
theorem dX4_ends_133 : decode cX4_ends 133 = .ok (.iadd, 1) := dk_96 (dk_at dksX4_ends_5 20 rfl rfl)
theorem dX4_ends_134 : decode cX4_ends 134 = .ok (.iload_n 2, 1) := dk_28 (dk_at dksX4_ends_5 21 rfl rfl)
theorem dX4_ends_135 : decode cX4_ends 135 = .ok (.isub, 1) := dk_100 (dk_at dksX4_ends_5 22 rfl rfl)
theorem dX4_ends_136 : decode cX4_ends 136 = .ok (.invokestatic 261, 3) := dk_184 1 5 (dk_at dksX4_ends_6 0 rfl rfl)
theorem dX4_ends_139 : decode cX4_ends 139 = .ok (.iastore, 1) := dk_79 (dk_at dksX4_ends_6 3 rfl rfl)
theorem dX4_ends_140 : decode cX4_ends 140 = .ok (.aload_n 0, 1) := dk_42 (dk_at dksX4_ends_6 4 rfl rfl)
theorem dX4_ends_141 : decode cX4_ends 141 = .ok (.getfield 47, 3) := dk_180 0 47 (dk_at dksX4_ends_6 5 rfl rfl)
theorem dX4_ends_144 : decode cX4_ends 144 = .ok (.iload_n 1, 1) := dk_27 (dk_at dksX4_ends_6 8 rfl rfl)
theorem dX4_ends_145 : decode cX4_ends 145 = .ok (.iaload, 1) := dk_46 (dk_at dksX4_ends_6 9 rfl rfl)
theorem dX4_ends_146 : decode cX4_ends 146 = .ok (.iconst 2, 1) := dk_5 (dk_at dksX4_ends_6 10 rfl rfl)
theorem dX4_ends_147 : decode cX4_ends 147 = .ok (.if_icmp .ge 10, 3) := dk_162 0 10 (dk_at dksX4_ends_6 11 rfl rfl)
theorem dX4_ends_150 : decode cX4_ends 150 = .ok (.aload_n 0, 1) := dk_42 (dk_at dksX4_ends_6 14 rfl rfl)
theorem dX4_ends_151 : decode cX4_ends 151 = .ok (.getfield 47, 3) := dk_180 0 47 (dk_at dksX4_ends_6 15 rfl rfl)
theorem dX4_ends_154 : decode cX4_ends 154 = .ok (.iload_n 1, 1) := dk_27 (dk_at dksX4_ends_6 18 rfl rfl)
theorem dX4_ends_155 : decode cX4_ends 155 = .ok (.iconst 2, 1) := dk_5 (dk_at dksX4_ends_6 19 rfl rfl)
theorem dX4_ends_156 : decode cX4_ends 156 = .ok (.iastore, 1) := dk_79 (dk_at dksX4_ends_6 20 rfl rfl)
theorem dX4_ends_157 : decode cX4_ends 157 = .ok (.iinc 1 1, 3) := dk_132 1 1 (dk_at dksX4_ends_6 21 rfl rfl)
theorem dX4_ends_160 : decode cX4_ends 160 = .ok (.goto (-158), 3) := dk_167 255 98 (dk_at dksX4_ends_7 0 rfl rfl)
theorem dX4_ends_163 : decode cX4_ends 163 = .ok (.iconst 0, 1) := dk_3 (dk_at dksX4_ends_7 3 rfl rfl)
theorem dX4_ends_164 : decode cX4_ends 164 = .ok (.istore_n 1, 1) := dk_60 (dk_at dksX4_ends_7 4 rfl rfl)
theorem dX4_ends_165 : decode cX4_ends 165 = .ok (.iload_n 1, 1) := dk_27 (dk_at dksX4_ends_7 5 rfl rfl)
theorem dX4_ends_166 : decode cX4_ends 166 = .ok (.aload_n 0, 1) := dk_42 (dk_at dksX4_ends_7 6 rfl rfl)
theorem dX4_ends_167 : decode cX4_ends 167 = .ok (.getfield 248, 3) := dk_180 0 248 (dk_at dksX4_ends_7 7 rfl rfl)
theorem dX4_ends_170 : decode cX4_ends 170 = .ok (.if_icmp .ge 23, 3) := dk_162 0 23 (dk_at dksX4_ends_7 10 rfl rfl)
theorem dX4_ends_173 : decode cX4_ends 173 = .ok (.aload_n 0, 1) := dk_42 (dk_at dksX4_ends_7 13 rfl rfl)
theorem dX4_ends_174 : decode cX4_ends 174 = .ok (.getfield 29, 3) := dk_180 0 29 (dk_at dksX4_ends_7 14 rfl rfl)
theorem dX4_ends_177 : decode cX4_ends 177 = .ok (.iload_n 1, 1) := dk_27 (dk_at dksX4_ends_7 17 rfl rfl)
theorem dX4_ends_178 : decode cX4_ends 178 = .ok (.iaload, 1) := dk_46 (dk_at dksX4_ends_7 18 rfl rfl)
theorem dX4_ends_179 : decode cX4_ends 179 = .ok (.ifCond .ne 8, 3) := dk_154 0 8 (dk_at dksX4_ends_7 19 rfl rfl)
theorem dX4_ends_182 : decode cX4_ends 182 = .ok (.aload_n 0, 1) := dk_42 (dk_at dksX4_ends_7 22 rfl rfl)
theorem dX4_ends_183 : decode cX4_ends 183 = .ok (.iload_n 1, 1) := dk_27 (dk_at dksX4_ends_7 23 rfl rfl)
theorem dX4_ends_184 : decode cX4_ends 184 = .ok (.invokevirtual 265, 3) := dk_182 1 9 (dk_at dksX4_ends_8 0 rfl rfl)
theorem dX4_ends_187 : decode cX4_ends 187 = .ok (.iinc 1 1, 3) := dk_132 1 1 (dk_at dksX4_ends_8 3 rfl rfl)
theorem dX4_ends_190 : decode cX4_ends 190 = .ok (.goto (-25), 3) := dk_167 255 231 (dk_at dksX4_ends_8 6 rfl rfl)
theorem dX4_ends_193 : decode cX4_ends 193 = .ok (.iconst 0, 1) := dk_3 (dk_at dksX4_ends_8 9 rfl rfl)
theorem dX4_ends_194 : decode cX4_ends 194 = .ok (.istore_n 1, 1) := dk_60 (dk_at dksX4_ends_8 10 rfl rfl)
theorem dX4_ends_195 : decode cX4_ends 195 = .ok (.iload_n 1, 1) := dk_27 (dk_at dksX4_ends_8 11 rfl rfl)
theorem dX4_ends_196 : decode cX4_ends 196 = .ok (.aload_n 0, 1) := dk_42 (dk_at dksX4_ends_8 12 rfl rfl)
theorem dX4_ends_197 : decode cX4_ends 197 = .ok (.getfield 248, 3) := dk_180 0 248 (dk_at dksX4_ends_8 13 rfl rfl)
theorem dX4_ends_200 : decode cX4_ends 200 = .ok (.if_icmp .ge 45, 3) := dk_162 0 45 (dk_at dksX4_ends_8 16 rfl rfl)
theorem dX4_ends_203 : decode cX4_ends 203 = .ok (.aload_n 0, 1) := dk_42 (dk_at dksX4_ends_8 19 rfl rfl)
theorem dX4_ends_204 : decode cX4_ends 204 = .ok (.getfield 32, 3) := dk_180 0 32 (dk_at dksX4_ends_8 20 rfl rfl)
theorem dX4_ends_207 : decode cX4_ends 207 = .ok (.iload_n 1, 1) := dk_27 (dk_at dksX4_ends_8 23 rfl rfl)
theorem dX4_ends_208 : decode cX4_ends 208 = .ok (.iconst 0, 1) := dk_3 (dk_at dksX4_ends_9 0 rfl rfl)
theorem dX4_ends_209 : decode cX4_ends 209 = .ok (.iastore, 1) := dk_79 (dk_at dksX4_ends_9 1 rfl rfl)
theorem dX4_ends_210 : decode cX4_ends 210 = .ok (.aload_n 0, 1) := dk_42 (dk_at dksX4_ends_9 2 rfl rfl)
theorem dX4_ends_211 : decode cX4_ends 211 = .ok (.getfield 35, 3) := dk_180 0 35 (dk_at dksX4_ends_9 3 rfl rfl)
theorem dX4_ends_214 : decode cX4_ends 214 = .ok (.iload_n 1, 1) := dk_27 (dk_at dksX4_ends_9 6 rfl rfl)
theorem dX4_ends_215 : decode cX4_ends 215 = .ok (.iconst 0, 1) := dk_3 (dk_at dksX4_ends_9 7 rfl rfl)
theorem dX4_ends_216 : decode cX4_ends 216 = .ok (.iastore, 1) := dk_79 (dk_at dksX4_ends_9 8 rfl rfl)
theorem dX4_ends_217 : decode cX4_ends 217 = .ok (.aload_n 0, 1) := dk_42 (dk_at dksX4_ends_9 9 rfl rfl)
theorem dX4_ends_218 : decode cX4_ends 218 = .ok (.getfield 38, 3) := dk_180 0 38 (dk_at dksX4_ends_9 10 rfl rfl)
theorem dX4_ends_221 : decode cX4_ends 221 = .ok (.iload_n 1, 1) := dk_27 (dk_at dksX4_ends_9 13 rfl rfl)
theorem dX4_ends_222 : decode cX4_ends 222 = .ok (.bipush 100, 2) := dk_16 100 (dk_at dksX4_ends_9 14 rfl rfl)
theorem dX4_ends_224 : decode cX4_ends 224 = .ok (.iastore, 1) := dk_79 (dk_at dksX4_ends_9 16 rfl rfl)
theorem dX4_ends_225 : decode cX4_ends 225 = .ok (.aload_n 0, 1) := dk_42 (dk_at dksX4_ends_9 17 rfl rfl)
theorem dX4_ends_226 : decode cX4_ends 226 = .ok (.getfield 50, 3) := dk_180 0 50 (dk_at dksX4_ends_9 18 rfl rfl)
theorem dX4_ends_229 : decode cX4_ends 229 = .ok (.iload_n 1, 1) := dk_27 (dk_at dksX4_ends_9 21 rfl rfl)
theorem dX4_ends_230 : decode cX4_ends 230 = .ok (.iconst 0, 1) := dk_3 (dk_at dksX4_ends_9 22 rfl rfl)
theorem dX4_ends_231 : decode cX4_ends 231 = .ok (.bastore, 1) := dk_84 (dk_at dksX4_ends_9 23 rfl rfl)
theorem dX4_ends_232 : decode cX4_ends 232 = .ok (.aload_n 0, 1) := dk_42 (dk_at dksX4_ends_10 0 rfl rfl)
theorem dX4_ends_233 : decode cX4_ends 233 = .ok (.getfield 54, 3) := dk_180 0 54 (dk_at dksX4_ends_10 1 rfl rfl)
theorem dX4_ends_236 : decode cX4_ends 236 = .ok (.iload_n 1, 1) := dk_27 (dk_at dksX4_ends_10 4 rfl rfl)
theorem dX4_ends_237 : decode cX4_ends 237 = .ok (.iconst 0, 1) := dk_3 (dk_at dksX4_ends_10 5 rfl rfl)
theorem dX4_ends_238 : decode cX4_ends 238 = .ok (.bastore, 1) := dk_84 (dk_at dksX4_ends_10 6 rfl rfl)
theorem dX4_ends_239 : decode cX4_ends 239 = .ok (.iinc 1 1, 3) := dk_132 1 1 (dk_at dksX4_ends_10 7 rfl rfl)
theorem dX4_ends_242 : decode cX4_ends 242 = .ok (.goto (-47), 3) := dk_167 255 209 (dk_at dksX4_ends_10 10 rfl rfl)
theorem dX4_ends_245 : decode cX4_ends 245 = .ok (.return_, 1) := dk_177 (dk_at dksX4_ends_10 13 rfl rfl)
abbrev cX4_within : ByteArray := prog_23_method_12_code
def yX4_within : MethodName := ⟨RX4, "within", "(I)I"⟩
def dkwX4_within_0 : List UInt8 := [26, 156, 0, 7, 3, 167, 0, 15, 26, 16, 9, 164, 0, 8, 16, 9, 167, 0, 4, 26, 172]
abbrev dktX4_within_0 : List UInt8 := dkwX4_within_0 ++ []
theorem dksX4_within_0 : cX4_within.data.toList.drop 0 = dktX4_within_0 := by decide +kernel
theorem dX4_within_0 : decode cX4_within 0 = .ok (.iload_n 0, 1) := dk_26 (dk_at dksX4_within_0 0 rfl rfl)
theorem dX4_within_1 : decode cX4_within 1 = .ok (.ifCond .ge 7, 3) := dk_156 0 7 (dk_at dksX4_within_0 1 rfl rfl)
theorem dX4_within_4 : decode cX4_within 4 = .ok (.iconst 0, 1) := dk_3 (dk_at dksX4_within_0 4 rfl rfl)
theorem dX4_within_5 : decode cX4_within 5 = .ok (.goto 15, 3) := dk_167 0 15 (dk_at dksX4_within_0 5 rfl rfl)
theorem dX4_within_8 : decode cX4_within 8 = .ok (.iload_n 0, 1) := dk_26 (dk_at dksX4_within_0 8 rfl rfl)
theorem dX4_within_9 : decode cX4_within 9 = .ok (.bipush 9, 2) := dk_16 9 (dk_at dksX4_within_0 9 rfl rfl)
theorem dX4_within_11 : decode cX4_within 11 = .ok (.if_icmp .le 8, 3) := dk_164 0 8 (dk_at dksX4_within_0 11 rfl rfl)
theorem dX4_within_14 : decode cX4_within 14 = .ok (.bipush 9, 2) := dk_16 9 (dk_at dksX4_within_0 14 rfl rfl)
theorem dX4_within_16 : decode cX4_within 16 = .ok (.goto 4, 3) := dk_167 0 4 (dk_at dksX4_within_0 16 rfl rfl)
theorem dX4_within_19 : decode cX4_within 19 = .ok (.iload_n 0, 1) := dk_26 (dk_at dksX4_within_0 19 rfl rfl)
theorem dX4_within_20 : decode cX4_within 20 = .ok (.ireturn, 1) := dk_172 (dk_at dksX4_within_0 20 rfl rfl)
abbrev cX4_swarms : ByteArray := prog_23_method_16_code
def yX4_swarms : MethodName := ⟨RX4, "swarms", "(I)V"⟩
def dkwX4_swarms_3 : List UInt8 := [5, 79, 177]
abbrev dktX4_swarms_3 : List UInt8 := dkwX4_swarms_3 ++ []
def dkwX4_swarms_2 : List UInt8 := [167, 255, 213, 28, 2, 160, 0, 4, 177, 42, 180, 0, 29, 28, 92, 46, 5, 100, 79, 42, 180, 0, 29, 27]
abbrev dktX4_swarms_2 : List UInt8 := dkwX4_swarms_2 ++ dktX4_swarms_3
def dkwX4_swarms_1 : List UInt8 := [159, 0, 18, 42, 27, 29, 182, 1, 16, 42, 27, 28, 182, 1, 16, 162, 0, 5, 29, 61, 132, 3, 1]
abbrev dktX4_swarms_1 : List UInt8 := dkwX4_swarms_1 ++ dktX4_swarms_2
def dkwX4_swarms_0 : List UInt8 := [2, 61, 3, 62, 29, 42, 180, 0, 248, 162, 0, 41, 42, 180, 0, 29, 29, 46, 8, 164, 0, 25, 28, 2]
abbrev dktX4_swarms_0 : List UInt8 := dkwX4_swarms_0 ++ dktX4_swarms_1
theorem dksX4_swarms_0 : cX4_swarms.data.toList.drop 0 = dktX4_swarms_0 := by decide +kernel
theorem dksX4_swarms_1 : cX4_swarms.data.toList.drop 24 = dktX4_swarms_1 := dk_seg dksX4_swarms_0 24 rfl rfl
theorem dksX4_swarms_2 : cX4_swarms.data.toList.drop 47 = dktX4_swarms_2 := dk_seg dksX4_swarms_1 23 rfl rfl
theorem dksX4_swarms_3 : cX4_swarms.data.toList.drop 71 = dktX4_swarms_3 := dk_seg dksX4_swarms_2 24 rfl rfl
theorem dX4_swarms_0 : decode cX4_swarms 0 = .ok (.iconst (-1), 1) := dk_2 (dk_at dksX4_swarms_0 0 rfl rfl)
theorem dX4_swarms_1 : decode cX4_swarms 1 = .ok (.istore_n 2, 1) := dk_61 (dk_at dksX4_swarms_0 1 rfl rfl)
theorem dX4_swarms_2 : decode cX4_swarms 2 = .ok (.iconst 0, 1) := dk_3 (dk_at dksX4_swarms_0 2 rfl rfl)
theorem dX4_swarms_3 : decode cX4_swarms 3 = .ok (.istore_n 3, 1) := dk_62 (dk_at dksX4_swarms_0 3 rfl rfl)
theorem dX4_swarms_4 : decode cX4_swarms 4 = .ok (.iload_n 3, 1) := dk_29 (dk_at dksX4_swarms_0 4 rfl rfl)
theorem dX4_swarms_5 : decode cX4_swarms 5 = .ok (.aload_n 0, 1) := dk_42 (dk_at dksX4_swarms_0 5 rfl rfl)
theorem dX4_swarms_6 : decode cX4_swarms 6 = .ok (.getfield 248, 3) := dk_180 0 248 (dk_at dksX4_swarms_0 6 rfl rfl)
theorem dX4_swarms_9 : decode cX4_swarms 9 = .ok (.if_icmp .ge 41, 3) := dk_162 0 41 (dk_at dksX4_swarms_0 9 rfl rfl)
theorem dX4_swarms_12 : decode cX4_swarms 12 = .ok (.aload_n 0, 1) := dk_42 (dk_at dksX4_swarms_0 12 rfl rfl)
theorem dX4_swarms_13 : decode cX4_swarms 13 = .ok (.getfield 29, 3) := dk_180 0 29 (dk_at dksX4_swarms_0 13 rfl rfl)
theorem dX4_swarms_16 : decode cX4_swarms 16 = .ok (.iload_n 3, 1) := dk_29 (dk_at dksX4_swarms_0 16 rfl rfl)
theorem dX4_swarms_17 : decode cX4_swarms 17 = .ok (.iaload, 1) := dk_46 (dk_at dksX4_swarms_0 17 rfl rfl)
theorem dX4_swarms_18 : decode cX4_swarms 18 = .ok (.iconst 5, 1) := dk_8 (dk_at dksX4_swarms_0 18 rfl rfl)
theorem dX4_swarms_19 : decode cX4_swarms 19 = .ok (.if_icmp .le 25, 3) := dk_164 0 25 (dk_at dksX4_swarms_0 19 rfl rfl)
theorem dX4_swarms_22 : decode cX4_swarms 22 = .ok (.iload_n 2, 1) := dk_28 (dk_at dksX4_swarms_0 22 rfl rfl)
theorem dX4_swarms_23 : decode cX4_swarms 23 = .ok (.iconst (-1), 1) := dk_2 (dk_at dksX4_swarms_0 23 rfl rfl)
theorem dX4_swarms_24 : decode cX4_swarms 24 = .ok (.if_icmp .eq 18, 3) := dk_159 0 18 (dk_at dksX4_swarms_1 0 rfl rfl)
theorem dX4_swarms_27 : decode cX4_swarms 27 = .ok (.aload_n 0, 1) := dk_42 (dk_at dksX4_swarms_1 3 rfl rfl)
theorem dX4_swarms_28 : decode cX4_swarms 28 = .ok (.iload_n 1, 1) := dk_27 (dk_at dksX4_swarms_1 4 rfl rfl)
theorem dX4_swarms_29 : decode cX4_swarms 29 = .ok (.iload_n 3, 1) := dk_29 (dk_at dksX4_swarms_1 5 rfl rfl)
theorem dX4_swarms_30 : decode cX4_swarms 30 = .ok (.invokevirtual 272, 3) := dk_182 1 16 (dk_at dksX4_swarms_1 6 rfl rfl)
theorem dX4_swarms_33 : decode cX4_swarms 33 = .ok (.aload_n 0, 1) := dk_42 (dk_at dksX4_swarms_1 9 rfl rfl)
theorem dX4_swarms_34 : decode cX4_swarms 34 = .ok (.iload_n 1, 1) := dk_27 (dk_at dksX4_swarms_1 10 rfl rfl)
theorem dX4_swarms_35 : decode cX4_swarms 35 = .ok (.iload_n 2, 1) := dk_28 (dk_at dksX4_swarms_1 11 rfl rfl)
theorem dX4_swarms_36 : decode cX4_swarms 36 = .ok (.invokevirtual 272, 3) := dk_182 1 16 (dk_at dksX4_swarms_1 12 rfl rfl)
theorem dX4_swarms_39 : decode cX4_swarms 39 = .ok (.if_icmp .ge 5, 3) := dk_162 0 5 (dk_at dksX4_swarms_1 15 rfl rfl)
theorem dX4_swarms_42 : decode cX4_swarms 42 = .ok (.iload_n 3, 1) := dk_29 (dk_at dksX4_swarms_1 18 rfl rfl)
theorem dX4_swarms_43 : decode cX4_swarms 43 = .ok (.istore_n 2, 1) := dk_61 (dk_at dksX4_swarms_1 19 rfl rfl)
theorem dX4_swarms_44 : decode cX4_swarms 44 = .ok (.iinc 3 1, 3) := dk_132 3 1 (dk_at dksX4_swarms_1 20 rfl rfl)
theorem dX4_swarms_47 : decode cX4_swarms 47 = .ok (.goto (-43), 3) := dk_167 255 213 (dk_at dksX4_swarms_2 0 rfl rfl)
theorem dX4_swarms_50 : decode cX4_swarms 50 = .ok (.iload_n 2, 1) := dk_28 (dk_at dksX4_swarms_2 3 rfl rfl)
theorem dX4_swarms_51 : decode cX4_swarms 51 = .ok (.iconst (-1), 1) := dk_2 (dk_at dksX4_swarms_2 4 rfl rfl)
theorem dX4_swarms_52 : decode cX4_swarms 52 = .ok (.if_icmp .ne 4, 3) := dk_160 0 4 (dk_at dksX4_swarms_2 5 rfl rfl)
theorem dX4_swarms_55 : decode cX4_swarms 55 = .ok (.return_, 1) := dk_177 (dk_at dksX4_swarms_2 8 rfl rfl)
theorem dX4_swarms_56 : decode cX4_swarms 56 = .ok (.aload_n 0, 1) := dk_42 (dk_at dksX4_swarms_2 9 rfl rfl)
theorem dX4_swarms_57 : decode cX4_swarms 57 = .ok (.getfield 29, 3) := dk_180 0 29 (dk_at dksX4_swarms_2 10 rfl rfl)
theorem dX4_swarms_60 : decode cX4_swarms 60 = .ok (.iload_n 2, 1) := dk_28 (dk_at dksX4_swarms_2 13 rfl rfl)
theorem dX4_swarms_61 : decode cX4_swarms 61 = .ok (.dup2, 1) := dk_92 (dk_at dksX4_swarms_2 14 rfl rfl)
theorem dX4_swarms_62 : decode cX4_swarms 62 = .ok (.iaload, 1) := dk_46 (dk_at dksX4_swarms_2 15 rfl rfl)
theorem dX4_swarms_63 : decode cX4_swarms 63 = .ok (.iconst 2, 1) := dk_5 (dk_at dksX4_swarms_2 16 rfl rfl)
theorem dX4_swarms_64 : decode cX4_swarms 64 = .ok (.isub, 1) := dk_100 (dk_at dksX4_swarms_2 17 rfl rfl)
theorem dX4_swarms_65 : decode cX4_swarms 65 = .ok (.iastore, 1) := dk_79 (dk_at dksX4_swarms_2 18 rfl rfl)
theorem dX4_swarms_66 : decode cX4_swarms 66 = .ok (.aload_n 0, 1) := dk_42 (dk_at dksX4_swarms_2 19 rfl rfl)
theorem dX4_swarms_67 : decode cX4_swarms 67 = .ok (.getfield 29, 3) := dk_180 0 29 (dk_at dksX4_swarms_2 20 rfl rfl)
theorem dX4_swarms_70 : decode cX4_swarms 70 = .ok (.iload_n 1, 1) := dk_27 (dk_at dksX4_swarms_2 23 rfl rfl)
theorem dX4_swarms_71 : decode cX4_swarms 71 = .ok (.iconst 2, 1) := dk_5 (dk_at dksX4_swarms_3 0 rfl rfl)
theorem dX4_swarms_72 : decode cX4_swarms 72 = .ok (.iastore, 1) := dk_79 (dk_at dksX4_swarms_3 1 rfl rfl)
theorem dX4_swarms_73 : decode cX4_swarms 73 = .ok (.return_, 1) := dk_177 (dk_at dksX4_swarms_3 2 rfl rfl)
abbrev cX4_apart : ByteArray := prog_23_method_15_code
def yX4_apart : MethodName := ⟨RX4, "apart", "(II)I"⟩
def dkwX4_apart_1 : List UInt8 := [180, 0, 26, 28, 46, 100, 184, 1, 13, 16, 10, 108, 96, 172]
abbrev dktX4_apart_1 : List UInt8 := dkwX4_apart_1 ++ []
def dkwX4_apart_0 : List UInt8 := [42, 180, 0, 23, 27, 46, 42, 180, 0, 23, 28, 46, 100, 184, 1, 13, 42, 180, 0, 26, 27, 46, 42]
abbrev dktX4_apart_0 : List UInt8 := dkwX4_apart_0 ++ dktX4_apart_1
theorem dksX4_apart_0 : cX4_apart.data.toList.drop 0 = dktX4_apart_0 := by decide +kernel
theorem dksX4_apart_1 : cX4_apart.data.toList.drop 23 = dktX4_apart_1 := dk_seg dksX4_apart_0 23 rfl rfl
theorem dX4_apart_0 : decode cX4_apart 0 = .ok (.aload_n 0, 1) := dk_42 (dk_at dksX4_apart_0 0 rfl rfl)
theorem dX4_apart_1 : decode cX4_apart 1 = .ok (.getfield 23, 3) := dk_180 0 23 (dk_at dksX4_apart_0 1 rfl rfl)
theorem dX4_apart_4 : decode cX4_apart 4 = .ok (.iload_n 1, 1) := dk_27 (dk_at dksX4_apart_0 4 rfl rfl)
theorem dX4_apart_5 : decode cX4_apart 5 = .ok (.iaload, 1) := dk_46 (dk_at dksX4_apart_0 5 rfl rfl)
theorem dX4_apart_6 : decode cX4_apart 6 = .ok (.aload_n 0, 1) := dk_42 (dk_at dksX4_apart_0 6 rfl rfl)
theorem dX4_apart_7 : decode cX4_apart 7 = .ok (.getfield 23, 3) := dk_180 0 23 (dk_at dksX4_apart_0 7 rfl rfl)
theorem dX4_apart_10 : decode cX4_apart 10 = .ok (.iload_n 2, 1) := dk_28 (dk_at dksX4_apart_0 10 rfl rfl)
theorem dX4_apart_11 : decode cX4_apart 11 = .ok (.iaload, 1) := dk_46 (dk_at dksX4_apart_0 11 rfl rfl)
theorem dX4_apart_12 : decode cX4_apart 12 = .ok (.isub, 1) := dk_100 (dk_at dksX4_apart_0 12 rfl rfl)
theorem dX4_apart_13 : decode cX4_apart 13 = .ok (.invokestatic 269, 3) := dk_184 1 13 (dk_at dksX4_apart_0 13 rfl rfl)
theorem dX4_apart_16 : decode cX4_apart 16 = .ok (.aload_n 0, 1) := dk_42 (dk_at dksX4_apart_0 16 rfl rfl)
theorem dX4_apart_17 : decode cX4_apart 17 = .ok (.getfield 26, 3) := dk_180 0 26 (dk_at dksX4_apart_0 17 rfl rfl)
theorem dX4_apart_20 : decode cX4_apart 20 = .ok (.iload_n 1, 1) := dk_27 (dk_at dksX4_apart_0 20 rfl rfl)
theorem dX4_apart_21 : decode cX4_apart 21 = .ok (.iaload, 1) := dk_46 (dk_at dksX4_apart_0 21 rfl rfl)
theorem dX4_apart_22 : decode cX4_apart 22 = .ok (.aload_n 0, 1) := dk_42 (dk_at dksX4_apart_0 22 rfl rfl)
theorem dX4_apart_23 : decode cX4_apart 23 = .ok (.getfield 26, 3) := dk_180 0 26 (dk_at dksX4_apart_1 0 rfl rfl)
theorem dX4_apart_26 : decode cX4_apart 26 = .ok (.iload_n 2, 1) := dk_28 (dk_at dksX4_apart_1 3 rfl rfl)
theorem dX4_apart_27 : decode cX4_apart 27 = .ok (.iaload, 1) := dk_46 (dk_at dksX4_apart_1 4 rfl rfl)
theorem dX4_apart_28 : decode cX4_apart 28 = .ok (.isub, 1) := dk_100 (dk_at dksX4_apart_1 5 rfl rfl)
theorem dX4_apart_29 : decode cX4_apart 29 = .ok (.invokestatic 269, 3) := dk_184 1 13 (dk_at dksX4_apart_1 6 rfl rfl)
theorem dX4_apart_32 : decode cX4_apart 32 = .ok (.bipush 10, 2) := dk_16 10 (dk_at dksX4_apart_1 9 rfl rfl)
theorem dX4_apart_34 : decode cX4_apart 34 = .ok (.idiv, 1) := dk_108 (dk_at dksX4_apart_1 11 rfl rfl)
theorem dX4_apart_35 : decode cX4_apart 35 = .ok (.iadd, 1) := dk_96 (dk_at dksX4_apart_1 12 rfl rfl)
theorem dX4_apart_36 : decode cX4_apart 36 = .ok (.ireturn, 1) := dk_172 (dk_at dksX4_apart_1 13 rfl rfl)
abbrev cX4_abs : ByteArray := prog_23_method_13_code
def yX4_abs : MethodName := ⟨RX4, "abs", "(I)I"⟩
def dkwX4_abs_0 : List UInt8 := [26, 156, 0, 8, 26, 116, 167, 0, 4, 26, 172]
abbrev dktX4_abs_0 : List UInt8 := dkwX4_abs_0 ++ []
theorem dksX4_abs_0 : cX4_abs.data.toList.drop 0 = dktX4_abs_0 := by decide +kernel
theorem dX4_abs_0 : decode cX4_abs 0 = .ok (.iload_n 0, 1) := dk_26 (dk_at dksX4_abs_0 0 rfl rfl)
theorem dX4_abs_1 : decode cX4_abs 1 = .ok (.ifCond .ge 8, 3) := dk_156 0 8 (dk_at dksX4_abs_0 1 rfl rfl)
theorem dX4_abs_4 : decode cX4_abs 4 = .ok (.iload_n 0, 1) := dk_26 (dk_at dksX4_abs_0 4 rfl rfl)
theorem dX4_abs_5 : decode cX4_abs 5 = .ok (.ineg, 1) := dk_116 (dk_at dksX4_abs_0 5 rfl rfl)
theorem dX4_abs_6 : decode cX4_abs 6 = .ok (.goto 4, 3) := dk_167 0 4 (dk_at dksX4_abs_0 6 rfl rfl)
theorem dX4_abs_9 : decode cX4_abs 9 = .ok (.iload_n 0, 1) := dk_26 (dk_at dksX4_abs_0 9 rfl rfl)
theorem dX4_abs_10 : decode cX4_abs 10 = .ok (.ireturn, 1) := dk_172 (dk_at dksX4_abs_0 10 rfl rfl)
abbrev cX4_weather : ByteArray := prog_23_method_19_code
def yX4_weather : MethodName := ⟨RX4, "weather", "(III)Z"⟩
def dkwX4_weather_2 : List UInt8 := [172]
abbrev dktX4_weather_2 : List UInt8 := dkwX4_weather_2 ++ []
def dkwX4_weather_1 : List UInt8 := [184, 0, 244, 154, 0, 5, 3, 172, 42, 27, 181, 1, 29, 42, 28, 181, 0, 7, 42, 29, 181, 0, 13, 4]
abbrev dktX4_weather_1 : List UInt8 := dkwX4_weather_1 ++ dktX4_weather_2
def dkwX4_weather_0 : List UInt8 := [27, 2, 4, 184, 0, 244, 153, 0, 24, 28, 3, 17, 2, 88, 184, 0, 244, 153, 0, 13, 29, 3, 16, 99]
abbrev dktX4_weather_0 : List UInt8 := dkwX4_weather_0 ++ dktX4_weather_1
theorem dksX4_weather_0 : cX4_weather.data.toList.drop 0 = dktX4_weather_0 := by decide +kernel
theorem dksX4_weather_1 : cX4_weather.data.toList.drop 24 = dktX4_weather_1 := dk_seg dksX4_weather_0 24 rfl rfl
theorem dksX4_weather_2 : cX4_weather.data.toList.drop 48 = dktX4_weather_2 := dk_seg dksX4_weather_1 24 rfl rfl
theorem dX4_weather_0 : decode cX4_weather 0 = .ok (.iload_n 1, 1) := dk_27 (dk_at dksX4_weather_0 0 rfl rfl)
theorem dX4_weather_1 : decode cX4_weather 1 = .ok (.iconst (-1), 1) := dk_2 (dk_at dksX4_weather_0 1 rfl rfl)
theorem dX4_weather_2 : decode cX4_weather 2 = .ok (.iconst 1, 1) := dk_4 (dk_at dksX4_weather_0 2 rfl rfl)
theorem dX4_weather_3 : decode cX4_weather 3 = .ok (.invokestatic 244, 3) := dk_184 0 244 (dk_at dksX4_weather_0 3 rfl rfl)
theorem dX4_weather_6 : decode cX4_weather 6 = .ok (.ifCond .eq 24, 3) := dk_153 0 24 (dk_at dksX4_weather_0 6 rfl rfl)
theorem dX4_weather_9 : decode cX4_weather 9 = .ok (.iload_n 2, 1) := dk_28 (dk_at dksX4_weather_0 9 rfl rfl)
theorem dX4_weather_10 : decode cX4_weather 10 = .ok (.iconst 0, 1) := dk_3 (dk_at dksX4_weather_0 10 rfl rfl)
theorem dX4_weather_11 : decode cX4_weather 11 = .ok (.sipush 600, 3) := dk_17 2 88 (dk_at dksX4_weather_0 11 rfl rfl)
theorem dX4_weather_14 : decode cX4_weather 14 = .ok (.invokestatic 244, 3) := dk_184 0 244 (dk_at dksX4_weather_0 14 rfl rfl)
theorem dX4_weather_17 : decode cX4_weather 17 = .ok (.ifCond .eq 13, 3) := dk_153 0 13 (dk_at dksX4_weather_0 17 rfl rfl)
theorem dX4_weather_20 : decode cX4_weather 20 = .ok (.iload_n 3, 1) := dk_29 (dk_at dksX4_weather_0 20 rfl rfl)
theorem dX4_weather_21 : decode cX4_weather 21 = .ok (.iconst 0, 1) := dk_3 (dk_at dksX4_weather_0 21 rfl rfl)
theorem dX4_weather_22 : decode cX4_weather 22 = .ok (.bipush 99, 2) := dk_16 99 (dk_at dksX4_weather_0 22 rfl rfl)
theorem dX4_weather_24 : decode cX4_weather 24 = .ok (.invokestatic 244, 3) := dk_184 0 244 (dk_at dksX4_weather_1 0 rfl rfl)
theorem dX4_weather_27 : decode cX4_weather 27 = .ok (.ifCond .ne 5, 3) := dk_154 0 5 (dk_at dksX4_weather_1 3 rfl rfl)
theorem dX4_weather_30 : decode cX4_weather 30 = .ok (.iconst 0, 1) := dk_3 (dk_at dksX4_weather_1 6 rfl rfl)
theorem dX4_weather_31 : decode cX4_weather 31 = .ok (.ireturn, 1) := dk_172 (dk_at dksX4_weather_1 7 rfl rfl)
theorem dX4_weather_32 : decode cX4_weather 32 = .ok (.aload_n 0, 1) := dk_42 (dk_at dksX4_weather_1 8 rfl rfl)
theorem dX4_weather_33 : decode cX4_weather 33 = .ok (.iload_n 1, 1) := dk_27 (dk_at dksX4_weather_1 9 rfl rfl)
theorem dX4_weather_34 : decode cX4_weather 34 = .ok (.putfield 285, 3) := dk_181 1 29 (dk_at dksX4_weather_1 10 rfl rfl)
theorem dX4_weather_37 : decode cX4_weather 37 = .ok (.aload_n 0, 1) := dk_42 (dk_at dksX4_weather_1 13 rfl rfl)
theorem dX4_weather_38 : decode cX4_weather 38 = .ok (.iload_n 2, 1) := dk_28 (dk_at dksX4_weather_1 14 rfl rfl)
theorem dX4_weather_39 : decode cX4_weather 39 = .ok (.putfield 7, 3) := dk_181 0 7 (dk_at dksX4_weather_1 15 rfl rfl)
theorem dX4_weather_42 : decode cX4_weather 42 = .ok (.aload_n 0, 1) := dk_42 (dk_at dksX4_weather_1 18 rfl rfl)
theorem dX4_weather_43 : decode cX4_weather 43 = .ok (.iload_n 3, 1) := dk_29 (dk_at dksX4_weather_1 19 rfl rfl)
theorem dX4_weather_44 : decode cX4_weather 44 = .ok (.putfield 13, 3) := dk_181 0 13 (dk_at dksX4_weather_1 20 rfl rfl)
theorem dX4_weather_47 : decode cX4_weather 47 = .ok (.iconst 1, 1) := dk_4 (dk_at dksX4_weather_1 23 rfl rfl)
theorem dX4_weather_48 : decode cX4_weather 48 = .ok (.ireturn, 1) := dk_172 (dk_at dksX4_weather_2 0 rfl rfl)
abbrev cX4_look : ByteArray := prog_23_method_20_code
def yX4_look : MethodName := ⟨RX4, "look", "(I)I"⟩
def dkwX4_look_6 : List UInt8 := [61, 132, 3, 1, 167, 255, 236, 28, 172, 16, 246, 172]
abbrev dktX4_look_6 : List UInt8 := dkwX4_look_6 ++ []
def dkwX4_look_5 : List UInt8 := [172, 42, 180, 1, 38, 172, 3, 62, 29, 42, 180, 0, 248, 162, 0, 18, 28, 42, 180, 0, 29, 29, 46, 96]
abbrev dktX4_look_5 : List UInt8 := dkwX4_look_5 ++ dktX4_look_6
def dkwX4_look_4 : List UInt8 := [29, 51, 153, 0, 7, 4, 167, 0, 4, 3, 96, 61, 132, 3, 1, 167, 255, 228, 28, 172, 42, 180, 1, 35]
abbrev dktX4_look_4 : List UInt8 := dkwX4_look_4 ++ dktX4_look_5
def dkwX4_look_3 : List UInt8 := [16, 30, 112, 172, 42, 180, 0, 135, 172, 3, 62, 29, 42, 180, 1, 32, 162, 0, 26, 28, 42, 180, 0, 183]
abbrev dktX4_look_3 : List UInt8 := dkwX4_look_3 ++ dktX4_look_4
def dkwX4_look_2 : List UInt8 := [42, 180, 0, 234, 172, 42, 182, 0, 237, 172, 42, 182, 0, 241, 172, 42, 182, 1, 2, 172, 42, 180, 0, 234]
abbrev dktX4_look_2 : List UInt8 := dkwX4_look_2 ++ dktX4_look_3
def dkwX4_look_1 : List UInt8 := [170, 0, 0, 0, 158, 0, 0, 0, 0, 0, 0, 0, 9, 0, 0, 0, 53, 0, 0, 0, 58, 0, 0, 0, 63, 0, 0, 0, 68, 0, 0, 0, 73, 0, 0, 0, 81, 0, 0, 0, 86, 0, 0, 0, 121, 0, 0, 0, 126, 0, 0, 0, 131]
abbrev dktX4_look_1 : List UInt8 := dkwX4_look_1 ++ dktX4_look_2
def dkwX4_look_0 : List UInt8 := [3, 61, 27]
abbrev dktX4_look_0 : List UInt8 := dkwX4_look_0 ++ dktX4_look_1
theorem dksX4_look_0 : cX4_look.data.toList.drop 0 = dktX4_look_0 := by decide +kernel
theorem dksX4_look_1 : cX4_look.data.toList.drop 3 = dktX4_look_1 := dk_seg dksX4_look_0 3 rfl rfl
theorem dksX4_look_2 : cX4_look.data.toList.drop 56 = dktX4_look_2 := dk_seg dksX4_look_1 53 rfl rfl
theorem dksX4_look_3 : cX4_look.data.toList.drop 80 = dktX4_look_3 := dk_seg dksX4_look_2 24 rfl rfl
theorem dksX4_look_4 : cX4_look.data.toList.drop 104 = dktX4_look_4 := dk_seg dksX4_look_3 24 rfl rfl
theorem dksX4_look_5 : cX4_look.data.toList.drop 128 = dktX4_look_5 := dk_seg dksX4_look_4 24 rfl rfl
theorem dksX4_look_6 : cX4_look.data.toList.drop 152 = dktX4_look_6 := dk_seg dksX4_look_5 24 rfl rfl
theorem dX4_look_0 : decode cX4_look 0 = .ok (.iconst 0, 1) := dk_3 (dk_at dksX4_look_0 0 rfl rfl)
theorem dX4_look_1 : decode cX4_look 1 = .ok (.istore_n 2, 1) := dk_61 (dk_at dksX4_look_0 1 rfl rfl)
theorem dX4_look_2 : decode cX4_look 2 = .ok (.iload_n 1, 1) := dk_27 (dk_at dksX4_look_0 2 rfl rfl)
theorem dX4_look_3 : decode cX4_look 3 = .ok (.tableswitch 158 0 9 #[53, 58, 63, 68, 73, 81, 86, 121, 126, 131], 53) := by decide +kernel
theorem dX4_look_56 : decode cX4_look 56 = .ok (.aload_n 0, 1) := dk_42 (dk_at dksX4_look_2 0 rfl rfl)
theorem dX4_look_57 : decode cX4_look 57 = .ok (.getfield 234, 3) := dk_180 0 234 (dk_at dksX4_look_2 1 rfl rfl)
theorem dX4_look_60 : decode cX4_look 60 = .ok (.ireturn, 1) := dk_172 (dk_at dksX4_look_2 4 rfl rfl)
theorem dX4_look_61 : decode cX4_look 61 = .ok (.aload_n 0, 1) := dk_42 (dk_at dksX4_look_2 5 rfl rfl)
theorem dX4_look_62 : decode cX4_look 62 = .ok (.invokevirtual 237, 3) := dk_182 0 237 (dk_at dksX4_look_2 6 rfl rfl)
theorem dX4_look_65 : decode cX4_look 65 = .ok (.ireturn, 1) := dk_172 (dk_at dksX4_look_2 9 rfl rfl)
theorem dX4_look_66 : decode cX4_look 66 = .ok (.aload_n 0, 1) := dk_42 (dk_at dksX4_look_2 10 rfl rfl)
theorem dX4_look_67 : decode cX4_look 67 = .ok (.invokevirtual 241, 3) := dk_182 0 241 (dk_at dksX4_look_2 11 rfl rfl)
theorem dX4_look_70 : decode cX4_look 70 = .ok (.ireturn, 1) := dk_172 (dk_at dksX4_look_2 14 rfl rfl)
theorem dX4_look_71 : decode cX4_look 71 = .ok (.aload_n 0, 1) := dk_42 (dk_at dksX4_look_2 15 rfl rfl)
theorem dX4_look_72 : decode cX4_look 72 = .ok (.invokevirtual 258, 3) := dk_182 1 2 (dk_at dksX4_look_2 16 rfl rfl)
theorem dX4_look_75 : decode cX4_look 75 = .ok (.ireturn, 1) := dk_172 (dk_at dksX4_look_2 19 rfl rfl)
theorem dX4_look_76 : decode cX4_look 76 = .ok (.aload_n 0, 1) := dk_42 (dk_at dksX4_look_2 20 rfl rfl)
theorem dX4_look_77 : decode cX4_look 77 = .ok (.getfield 234, 3) := dk_180 0 234 (dk_at dksX4_look_2 21 rfl rfl)
theorem dX4_look_80 : decode cX4_look 80 = .ok (.bipush 30, 2) := dk_16 30 (dk_at dksX4_look_3 0 rfl rfl)
theorem dX4_look_82 : decode cX4_look 82 = .ok (.irem, 1) := dk_112 (dk_at dksX4_look_3 2 rfl rfl)
theorem dX4_look_83 : decode cX4_look 83 = .ok (.ireturn, 1) := dk_172 (dk_at dksX4_look_3 3 rfl rfl)
theorem dX4_look_84 : decode cX4_look 84 = .ok (.aload_n 0, 1) := dk_42 (dk_at dksX4_look_3 4 rfl rfl)
theorem dX4_look_85 : decode cX4_look 85 = .ok (.getfield 135, 3) := dk_180 0 135 (dk_at dksX4_look_3 5 rfl rfl)
theorem dX4_look_88 : decode cX4_look 88 = .ok (.ireturn, 1) := dk_172 (dk_at dksX4_look_3 8 rfl rfl)
theorem dX4_look_89 : decode cX4_look 89 = .ok (.iconst 0, 1) := dk_3 (dk_at dksX4_look_3 9 rfl rfl)
theorem dX4_look_90 : decode cX4_look 90 = .ok (.istore_n 3, 1) := dk_62 (dk_at dksX4_look_3 10 rfl rfl)
theorem dX4_look_91 : decode cX4_look 91 = .ok (.iload_n 3, 1) := dk_29 (dk_at dksX4_look_3 11 rfl rfl)
theorem dX4_look_92 : decode cX4_look 92 = .ok (.aload_n 0, 1) := dk_42 (dk_at dksX4_look_3 12 rfl rfl)
theorem dX4_look_93 : decode cX4_look 93 = .ok (.getfield 288, 3) := dk_180 1 32 (dk_at dksX4_look_3 13 rfl rfl)
theorem dX4_look_96 : decode cX4_look 96 = .ok (.if_icmp .ge 26, 3) := dk_162 0 26 (dk_at dksX4_look_3 16 rfl rfl)
theorem dX4_look_99 : decode cX4_look 99 = .ok (.iload_n 2, 1) := dk_28 (dk_at dksX4_look_3 19 rfl rfl)
theorem dX4_look_100 : decode cX4_look 100 = .ok (.aload_n 0, 1) := dk_42 (dk_at dksX4_look_3 20 rfl rfl)
theorem dX4_look_101 : decode cX4_look 101 = .ok (.getfield 183, 3) := dk_180 0 183 (dk_at dksX4_look_3 21 rfl rfl)
theorem dX4_look_104 : decode cX4_look 104 = .ok (.iload_n 3, 1) := dk_29 (dk_at dksX4_look_4 0 rfl rfl)
theorem dX4_look_105 : decode cX4_look 105 = .ok (.baload, 1) := dk_51 (dk_at dksX4_look_4 1 rfl rfl)
theorem dX4_look_106 : decode cX4_look 106 = .ok (.ifCond .eq 7, 3) := dk_153 0 7 (dk_at dksX4_look_4 2 rfl rfl)
theorem dX4_look_109 : decode cX4_look 109 = .ok (.iconst 1, 1) := dk_4 (dk_at dksX4_look_4 5 rfl rfl)
theorem dX4_look_110 : decode cX4_look 110 = .ok (.goto 4, 3) := dk_167 0 4 (dk_at dksX4_look_4 6 rfl rfl)
theorem dX4_look_113 : decode cX4_look 113 = .ok (.iconst 0, 1) := dk_3 (dk_at dksX4_look_4 9 rfl rfl)
theorem dX4_look_114 : decode cX4_look 114 = .ok (.iadd, 1) := dk_96 (dk_at dksX4_look_4 10 rfl rfl)
theorem dX4_look_115 : decode cX4_look 115 = .ok (.istore_n 2, 1) := dk_61 (dk_at dksX4_look_4 11 rfl rfl)
theorem dX4_look_116 : decode cX4_look 116 = .ok (.iinc 3 1, 3) := dk_132 3 1 (dk_at dksX4_look_4 12 rfl rfl)
theorem dX4_look_119 : decode cX4_look 119 = .ok (.goto (-28), 3) := dk_167 255 228 (dk_at dksX4_look_4 15 rfl rfl)
theorem dX4_look_122 : decode cX4_look 122 = .ok (.iload_n 2, 1) := dk_28 (dk_at dksX4_look_4 18 rfl rfl)
theorem dX4_look_123 : decode cX4_look 123 = .ok (.ireturn, 1) := dk_172 (dk_at dksX4_look_4 19 rfl rfl)
theorem dX4_look_124 : decode cX4_look 124 = .ok (.aload_n 0, 1) := dk_42 (dk_at dksX4_look_4 20 rfl rfl)
theorem dX4_look_125 : decode cX4_look 125 = .ok (.getfield 291, 3) := dk_180 1 35 (dk_at dksX4_look_4 21 rfl rfl)
theorem dX4_look_128 : decode cX4_look 128 = .ok (.ireturn, 1) := dk_172 (dk_at dksX4_look_5 0 rfl rfl)
theorem dX4_look_129 : decode cX4_look 129 = .ok (.aload_n 0, 1) := dk_42 (dk_at dksX4_look_5 1 rfl rfl)
theorem dX4_look_130 : decode cX4_look 130 = .ok (.getfield 294, 3) := dk_180 1 38 (dk_at dksX4_look_5 2 rfl rfl)
theorem dX4_look_133 : decode cX4_look 133 = .ok (.ireturn, 1) := dk_172 (dk_at dksX4_look_5 5 rfl rfl)
theorem dX4_look_134 : decode cX4_look 134 = .ok (.iconst 0, 1) := dk_3 (dk_at dksX4_look_5 6 rfl rfl)
theorem dX4_look_135 : decode cX4_look 135 = .ok (.istore_n 3, 1) := dk_62 (dk_at dksX4_look_5 7 rfl rfl)
theorem dX4_look_136 : decode cX4_look 136 = .ok (.iload_n 3, 1) := dk_29 (dk_at dksX4_look_5 8 rfl rfl)
theorem dX4_look_137 : decode cX4_look 137 = .ok (.aload_n 0, 1) := dk_42 (dk_at dksX4_look_5 9 rfl rfl)
theorem dX4_look_138 : decode cX4_look 138 = .ok (.getfield 248, 3) := dk_180 0 248 (dk_at dksX4_look_5 10 rfl rfl)
theorem dX4_look_141 : decode cX4_look 141 = .ok (.if_icmp .ge 18, 3) := dk_162 0 18 (dk_at dksX4_look_5 13 rfl rfl)
theorem dX4_look_144 : decode cX4_look 144 = .ok (.iload_n 2, 1) := dk_28 (dk_at dksX4_look_5 16 rfl rfl)
theorem dX4_look_145 : decode cX4_look 145 = .ok (.aload_n 0, 1) := dk_42 (dk_at dksX4_look_5 17 rfl rfl)
theorem dX4_look_146 : decode cX4_look 146 = .ok (.getfield 29, 3) := dk_180 0 29 (dk_at dksX4_look_5 18 rfl rfl)
theorem dX4_look_149 : decode cX4_look 149 = .ok (.iload_n 3, 1) := dk_29 (dk_at dksX4_look_5 21 rfl rfl)
theorem dX4_look_150 : decode cX4_look 150 = .ok (.iaload, 1) := dk_46 (dk_at dksX4_look_5 22 rfl rfl)
theorem dX4_look_151 : decode cX4_look 151 = .ok (.iadd, 1) := dk_96 (dk_at dksX4_look_5 23 rfl rfl)
theorem dX4_look_152 : decode cX4_look 152 = .ok (.istore_n 2, 1) := dk_61 (dk_at dksX4_look_6 0 rfl rfl)
theorem dX4_look_153 : decode cX4_look 153 = .ok (.iinc 3 1, 3) := dk_132 3 1 (dk_at dksX4_look_6 1 rfl rfl)
theorem dX4_look_156 : decode cX4_look 156 = .ok (.goto (-20), 3) := dk_167 255 236 (dk_at dksX4_look_6 4 rfl rfl)
theorem dX4_look_159 : decode cX4_look 159 = .ok (.iload_n 2, 1) := dk_28 (dk_at dksX4_look_6 7 rfl rfl)
theorem dX4_look_160 : decode cX4_look 160 = .ok (.ireturn, 1) := dk_172 (dk_at dksX4_look_6 8 rfl rfl)
theorem dX4_look_161 : decode cX4_look 161 = .ok (.bipush (-10), 2) := dk_16 246 (dk_at dksX4_look_6 9 rfl rfl)
theorem dX4_look_163 : decode cX4_look 163 = .ok (.ireturn, 1) := dk_172 (dk_at dksX4_look_6 11 rfl rfl)
abbrev cX4_feed : ByteArray := prog_23_method_21_code
def yX4_feed : MethodName := ⟨RX4, "feed", "(IIIII)I"⟩
def dkwX4_feed_5 : List UInt8 := [180, 1, 41, 172]
abbrev dktX4_feed_5 : List UInt8 := dkwX4_feed_5 ++ []
def dkwX4_feed_4 : List UInt8 := [122, 17, 0, 255, 126, 79, 42, 89, 180, 1, 41, 4, 96, 181, 1, 41, 132, 6, 1, 167, 255, 162, 42]
abbrev dktX4_feed_4 : List UInt8 := dkwX4_feed_4 ++ dktX4_feed_5
def dkwX4_feed_3 : List UInt8 := [21, 5, 54, 7, 42, 180, 0, 99, 42, 180, 1, 41, 21, 7, 16, 24, 16, 8, 21, 6, 7, 112, 104, 100]
abbrev dktX4_feed_3 : List UInt8 := dkwX4_feed_3 ++ dktX4_feed_4
def dkwX4_feed_2 : List UInt8 := [21, 6, 16, 12, 162, 0, 7, 29, 167, 0, 17, 21, 6, 16, 16, 162, 0, 8, 21, 4, 167, 0, 5]
abbrev dktX4_feed_2 : List UInt8 := dkwX4_feed_2 ++ dktX4_feed_3
def dkwX4_feed_1 : List UInt8 := [162, 0, 93, 21, 6, 7, 162, 0, 7, 27, 167, 0, 39, 21, 6, 16, 8, 162, 0, 7, 28, 167, 0, 28]
abbrev dktX4_feed_1 : List UInt8 := dkwX4_feed_1 ++ dktX4_feed_2
def dkwX4_feed_0 : List UInt8 := [42, 180, 1, 41, 16, 20, 96, 17, 2, 88, 164, 0, 5, 2, 172, 3, 54, 6, 21, 6, 16, 20]
abbrev dktX4_feed_0 : List UInt8 := dkwX4_feed_0 ++ dktX4_feed_1
theorem dksX4_feed_0 : cX4_feed.data.toList.drop 0 = dktX4_feed_0 := by decide +kernel
theorem dksX4_feed_1 : cX4_feed.data.toList.drop 22 = dktX4_feed_1 := dk_seg dksX4_feed_0 22 rfl rfl
theorem dksX4_feed_2 : cX4_feed.data.toList.drop 46 = dktX4_feed_2 := dk_seg dksX4_feed_1 24 rfl rfl
theorem dksX4_feed_3 : cX4_feed.data.toList.drop 69 = dktX4_feed_3 := dk_seg dksX4_feed_2 23 rfl rfl
theorem dksX4_feed_4 : cX4_feed.data.toList.drop 93 = dktX4_feed_4 := dk_seg dksX4_feed_3 24 rfl rfl
theorem dksX4_feed_5 : cX4_feed.data.toList.drop 116 = dktX4_feed_5 := dk_seg dksX4_feed_4 23 rfl rfl
theorem dX4_feed_0 : decode cX4_feed 0 = .ok (.aload_n 0, 1) := dk_42 (dk_at dksX4_feed_0 0 rfl rfl)
theorem dX4_feed_1 : decode cX4_feed 1 = .ok (.getfield 297, 3) := dk_180 1 41 (dk_at dksX4_feed_0 1 rfl rfl)
theorem dX4_feed_4 : decode cX4_feed 4 = .ok (.bipush 20, 2) := dk_16 20 (dk_at dksX4_feed_0 4 rfl rfl)
theorem dX4_feed_6 : decode cX4_feed 6 = .ok (.iadd, 1) := dk_96 (dk_at dksX4_feed_0 6 rfl rfl)
theorem dX4_feed_7 : decode cX4_feed 7 = .ok (.sipush 600, 3) := dk_17 2 88 (dk_at dksX4_feed_0 7 rfl rfl)
theorem dX4_feed_10 : decode cX4_feed 10 = .ok (.if_icmp .le 5, 3) := dk_164 0 5 (dk_at dksX4_feed_0 10 rfl rfl)
theorem dX4_feed_13 : decode cX4_feed 13 = .ok (.iconst (-1), 1) := dk_2 (dk_at dksX4_feed_0 13 rfl rfl)
theorem dX4_feed_14 : decode cX4_feed 14 = .ok (.ireturn, 1) := dk_172 (dk_at dksX4_feed_0 14 rfl rfl)
theorem dX4_feed_15 : decode cX4_feed 15 = .ok (.iconst 0, 1) := dk_3 (dk_at dksX4_feed_0 15 rfl rfl)
theorem dX4_feed_16 : decode cX4_feed 16 = .ok (.istore 6, 2) := dk_54 6 (dk_at dksX4_feed_0 16 rfl rfl)
theorem dX4_feed_18 : decode cX4_feed 18 = .ok (.iload 6, 2) := dk_21 6 (dk_at dksX4_feed_0 18 rfl rfl)
theorem dX4_feed_20 : decode cX4_feed 20 = .ok (.bipush 20, 2) := dk_16 20 (dk_at dksX4_feed_0 20 rfl rfl)
theorem dX4_feed_22 : decode cX4_feed 22 = .ok (.if_icmp .ge 93, 3) := dk_162 0 93 (dk_at dksX4_feed_1 0 rfl rfl)
theorem dX4_feed_25 : decode cX4_feed 25 = .ok (.iload 6, 2) := dk_21 6 (dk_at dksX4_feed_1 3 rfl rfl)
theorem dX4_feed_27 : decode cX4_feed 27 = .ok (.iconst 4, 1) := dk_7 (dk_at dksX4_feed_1 5 rfl rfl)
theorem dX4_feed_28 : decode cX4_feed 28 = .ok (.if_icmp .ge 7, 3) := dk_162 0 7 (dk_at dksX4_feed_1 6 rfl rfl)
theorem dX4_feed_31 : decode cX4_feed 31 = .ok (.iload_n 1, 1) := dk_27 (dk_at dksX4_feed_1 9 rfl rfl)
theorem dX4_feed_32 : decode cX4_feed 32 = .ok (.goto 39, 3) := dk_167 0 39 (dk_at dksX4_feed_1 10 rfl rfl)
theorem dX4_feed_35 : decode cX4_feed 35 = .ok (.iload 6, 2) := dk_21 6 (dk_at dksX4_feed_1 13 rfl rfl)
theorem dX4_feed_37 : decode cX4_feed 37 = .ok (.bipush 8, 2) := dk_16 8 (dk_at dksX4_feed_1 15 rfl rfl)
theorem dX4_feed_39 : decode cX4_feed 39 = .ok (.if_icmp .ge 7, 3) := dk_162 0 7 (dk_at dksX4_feed_1 17 rfl rfl)
theorem dX4_feed_42 : decode cX4_feed 42 = .ok (.iload_n 2, 1) := dk_28 (dk_at dksX4_feed_1 20 rfl rfl)
theorem dX4_feed_43 : decode cX4_feed 43 = .ok (.goto 28, 3) := dk_167 0 28 (dk_at dksX4_feed_1 21 rfl rfl)
theorem dX4_feed_46 : decode cX4_feed 46 = .ok (.iload 6, 2) := dk_21 6 (dk_at dksX4_feed_2 0 rfl rfl)
theorem dX4_feed_48 : decode cX4_feed 48 = .ok (.bipush 12, 2) := dk_16 12 (dk_at dksX4_feed_2 2 rfl rfl)
theorem dX4_feed_50 : decode cX4_feed 50 = .ok (.if_icmp .ge 7, 3) := dk_162 0 7 (dk_at dksX4_feed_2 4 rfl rfl)
theorem dX4_feed_53 : decode cX4_feed 53 = .ok (.iload_n 3, 1) := dk_29 (dk_at dksX4_feed_2 7 rfl rfl)
theorem dX4_feed_54 : decode cX4_feed 54 = .ok (.goto 17, 3) := dk_167 0 17 (dk_at dksX4_feed_2 8 rfl rfl)
theorem dX4_feed_57 : decode cX4_feed 57 = .ok (.iload 6, 2) := dk_21 6 (dk_at dksX4_feed_2 11 rfl rfl)
theorem dX4_feed_59 : decode cX4_feed 59 = .ok (.bipush 16, 2) := dk_16 16 (dk_at dksX4_feed_2 13 rfl rfl)
theorem dX4_feed_61 : decode cX4_feed 61 = .ok (.if_icmp .ge 8, 3) := dk_162 0 8 (dk_at dksX4_feed_2 15 rfl rfl)
theorem dX4_feed_64 : decode cX4_feed 64 = .ok (.iload 4, 2) := dk_21 4 (dk_at dksX4_feed_2 18 rfl rfl)
theorem dX4_feed_66 : decode cX4_feed 66 = .ok (.goto 5, 3) := dk_167 0 5 (dk_at dksX4_feed_2 20 rfl rfl)
theorem dX4_feed_69 : decode cX4_feed 69 = .ok (.iload 5, 2) := dk_21 5 (dk_at dksX4_feed_3 0 rfl rfl)
theorem dX4_feed_71 : decode cX4_feed 71 = .ok (.istore 7, 2) := dk_54 7 (dk_at dksX4_feed_3 2 rfl rfl)
theorem dX4_feed_73 : decode cX4_feed 73 = .ok (.aload_n 0, 1) := dk_42 (dk_at dksX4_feed_3 4 rfl rfl)
theorem dX4_feed_74 : decode cX4_feed 74 = .ok (.getfield 99, 3) := dk_180 0 99 (dk_at dksX4_feed_3 5 rfl rfl)
theorem dX4_feed_77 : decode cX4_feed 77 = .ok (.aload_n 0, 1) := dk_42 (dk_at dksX4_feed_3 8 rfl rfl)
theorem dX4_feed_78 : decode cX4_feed 78 = .ok (.getfield 297, 3) := dk_180 1 41 (dk_at dksX4_feed_3 9 rfl rfl)
theorem dX4_feed_81 : decode cX4_feed 81 = .ok (.iload 7, 2) := dk_21 7 (dk_at dksX4_feed_3 12 rfl rfl)
theorem dX4_feed_83 : decode cX4_feed 83 = .ok (.bipush 24, 2) := dk_16 24 (dk_at dksX4_feed_3 14 rfl rfl)
theorem dX4_feed_85 : decode cX4_feed 85 = .ok (.bipush 8, 2) := dk_16 8 (dk_at dksX4_feed_3 16 rfl rfl)
theorem dX4_feed_87 : decode cX4_feed 87 = .ok (.iload 6, 2) := dk_21 6 (dk_at dksX4_feed_3 18 rfl rfl)
theorem dX4_feed_89 : decode cX4_feed 89 = .ok (.iconst 4, 1) := dk_7 (dk_at dksX4_feed_3 20 rfl rfl)
theorem dX4_feed_90 : decode cX4_feed 90 = .ok (.irem, 1) := dk_112 (dk_at dksX4_feed_3 21 rfl rfl)
theorem dX4_feed_91 : decode cX4_feed 91 = .ok (.imul, 1) := dk_104 (dk_at dksX4_feed_3 22 rfl rfl)
theorem dX4_feed_92 : decode cX4_feed 92 = .ok (.isub, 1) := dk_100 (dk_at dksX4_feed_3 23 rfl rfl)
theorem dX4_feed_93 : decode cX4_feed 93 = .ok (.ishr, 1) := dk_122 (dk_at dksX4_feed_4 0 rfl rfl)
theorem dX4_feed_94 : decode cX4_feed 94 = .ok (.sipush 255, 3) := dk_17 0 255 (dk_at dksX4_feed_4 1 rfl rfl)
theorem dX4_feed_97 : decode cX4_feed 97 = .ok (.iand, 1) := dk_126 (dk_at dksX4_feed_4 4 rfl rfl)
theorem dX4_feed_98 : decode cX4_feed 98 = .ok (.iastore, 1) := dk_79 (dk_at dksX4_feed_4 5 rfl rfl)
theorem dX4_feed_99 : decode cX4_feed 99 = .ok (.aload_n 0, 1) := dk_42 (dk_at dksX4_feed_4 6 rfl rfl)
theorem dX4_feed_100 : decode cX4_feed 100 = .ok (.dup, 1) := dk_89 (dk_at dksX4_feed_4 7 rfl rfl)
theorem dX4_feed_101 : decode cX4_feed 101 = .ok (.getfield 297, 3) := dk_180 1 41 (dk_at dksX4_feed_4 8 rfl rfl)
theorem dX4_feed_104 : decode cX4_feed 104 = .ok (.iconst 1, 1) := dk_4 (dk_at dksX4_feed_4 11 rfl rfl)
theorem dX4_feed_105 : decode cX4_feed 105 = .ok (.iadd, 1) := dk_96 (dk_at dksX4_feed_4 12 rfl rfl)
theorem dX4_feed_106 : decode cX4_feed 106 = .ok (.putfield 297, 3) := dk_181 1 41 (dk_at dksX4_feed_4 13 rfl rfl)
theorem dX4_feed_109 : decode cX4_feed 109 = .ok (.iinc 6 1, 3) := dk_132 6 1 (dk_at dksX4_feed_4 16 rfl rfl)
theorem dX4_feed_112 : decode cX4_feed 112 = .ok (.goto (-94), 3) := dk_167 255 162 (dk_at dksX4_feed_4 19 rfl rfl)
theorem dX4_feed_115 : decode cX4_feed 115 = .ok (.aload_n 0, 1) := dk_42 (dk_at dksX4_feed_4 22 rfl rfl)
theorem dX4_feed_116 : decode cX4_feed 116 = .ok (.getfield 297, 3) := dk_180 1 41 (dk_at dksX4_feed_5 0 rfl rfl)
theorem dX4_feed_119 : decode cX4_feed 119 = .ok (.ireturn, 1) := dk_172 (dk_at dksX4_feed_5 3 rfl rfl)
abbrev cX4_end : ByteArray := prog_23_method_22_code
def yX4_end : MethodName := ⟨RX4, "end", "(I)Z"⟩
def dkwX4_end_0 : List UInt8 := [27, 3, 42, 180, 1, 41, 184, 0, 244, 154, 0, 5, 3, 172, 42, 27, 181, 1, 41, 4, 172]
abbrev dktX4_end_0 : List UInt8 := dkwX4_end_0 ++ []
theorem dksX4_end_0 : cX4_end.data.toList.drop 0 = dktX4_end_0 := by decide +kernel
theorem dX4_end_0 : decode cX4_end 0 = .ok (.iload_n 1, 1) := dk_27 (dk_at dksX4_end_0 0 rfl rfl)
theorem dX4_end_1 : decode cX4_end 1 = .ok (.iconst 0, 1) := dk_3 (dk_at dksX4_end_0 1 rfl rfl)
theorem dX4_end_2 : decode cX4_end 2 = .ok (.aload_n 0, 1) := dk_42 (dk_at dksX4_end_0 2 rfl rfl)
theorem dX4_end_3 : decode cX4_end 3 = .ok (.getfield 297, 3) := dk_180 1 41 (dk_at dksX4_end_0 3 rfl rfl)
theorem dX4_end_6 : decode cX4_end 6 = .ok (.invokestatic 244, 3) := dk_184 0 244 (dk_at dksX4_end_0 6 rfl rfl)
theorem dX4_end_9 : decode cX4_end 9 = .ok (.ifCond .ne 5, 3) := dk_154 0 5 (dk_at dksX4_end_0 9 rfl rfl)
theorem dX4_end_12 : decode cX4_end 12 = .ok (.iconst 0, 1) := dk_3 (dk_at dksX4_end_0 12 rfl rfl)
theorem dX4_end_13 : decode cX4_end 13 = .ok (.ireturn, 1) := dk_172 (dk_at dksX4_end_0 13 rfl rfl)
theorem dX4_end_14 : decode cX4_end 14 = .ok (.aload_n 0, 1) := dk_42 (dk_at dksX4_end_0 14 rfl rfl)
theorem dX4_end_15 : decode cX4_end 15 = .ok (.iload_n 1, 1) := dk_27 (dk_at dksX4_end_0 15 rfl rfl)
theorem dX4_end_16 : decode cX4_end 16 = .ok (.putfield 297, 3) := dk_181 1 41 (dk_at dksX4_end_0 16 rfl rfl)
theorem dX4_end_19 : decode cX4_end 19 = .ok (.iconst 1, 1) := dk_4 (dk_at dksX4_end_0 19 rfl rfl)
theorem dX4_end_20 : decode cX4_end 20 = .ok (.ireturn, 1) := dk_172 (dk_at dksX4_end_0 20 rfl rfl)
abbrev cX4_rules : ByteArray := prog_23_method_41_code
def yX4_rules : MethodName := ⟨RX4, "rules", "(I)I"⟩
def dkwX4_rules_4 : List UInt8 := [172, 42, 27, 182, 1, 173, 42, 180, 1, 155, 172]
abbrev dktX4_rules_4 : List UInt8 := dkwX4_rules_4 ++ []
def dkwX4_rules_3 : List UInt8 := [181, 1, 170, 42, 28, 153, 0, 7, 2, 167, 0, 7, 42, 180, 1, 114, 181, 0, 105, 28, 154, 0, 5, 2]
abbrev dktX4_rules_3 : List UInt8 := dkwX4_rules_3 ++ dktX4_rules_4
def dkwX4_rules_2 : List UInt8 := [180, 1, 95, 153, 0, 11, 42, 182, 1, 167, 61, 167, 255, 240, 42, 3, 181, 1, 41, 42, 42, 180, 1, 111]
abbrev dktX4_rules_2 : List UInt8 := dkwX4_rules_2 ++ dktX4_rules_3
def dkwX4_rules_1 : List UInt8 := [181, 1, 86, 42, 3, 181, 1, 155, 42, 3, 181, 1, 123, 42, 182, 1, 120, 4, 61, 28, 153, 0, 18, 42]
abbrev dktX4_rules_1 : List UInt8 := dkwX4_rules_1 ++ dktX4_rules_2
def dkwX4_rules_0 : List UInt8 := [27, 3, 4, 184, 0, 244, 154, 0, 10, 42, 3, 181, 1, 41, 2, 172, 42, 3, 181, 1, 111, 42, 3]
abbrev dktX4_rules_0 : List UInt8 := dkwX4_rules_0 ++ dktX4_rules_1
theorem dksX4_rules_0 : cX4_rules.data.toList.drop 0 = dktX4_rules_0 := by decide +kernel
theorem dksX4_rules_1 : cX4_rules.data.toList.drop 23 = dktX4_rules_1 := dk_seg dksX4_rules_0 23 rfl rfl
theorem dksX4_rules_2 : cX4_rules.data.toList.drop 47 = dktX4_rules_2 := dk_seg dksX4_rules_1 24 rfl rfl
theorem dksX4_rules_3 : cX4_rules.data.toList.drop 71 = dktX4_rules_3 := dk_seg dksX4_rules_2 24 rfl rfl
theorem dksX4_rules_4 : cX4_rules.data.toList.drop 95 = dktX4_rules_4 := dk_seg dksX4_rules_3 24 rfl rfl
theorem dX4_rules_0 : decode cX4_rules 0 = .ok (.iload_n 1, 1) := dk_27 (dk_at dksX4_rules_0 0 rfl rfl)
theorem dX4_rules_1 : decode cX4_rules 1 = .ok (.iconst 0, 1) := dk_3 (dk_at dksX4_rules_0 1 rfl rfl)
theorem dX4_rules_2 : decode cX4_rules 2 = .ok (.iconst 1, 1) := dk_4 (dk_at dksX4_rules_0 2 rfl rfl)
theorem dX4_rules_3 : decode cX4_rules 3 = .ok (.invokestatic 244, 3) := dk_184 0 244 (dk_at dksX4_rules_0 3 rfl rfl)
theorem dX4_rules_6 : decode cX4_rules 6 = .ok (.ifCond .ne 10, 3) := dk_154 0 10 (dk_at dksX4_rules_0 6 rfl rfl)
theorem dX4_rules_9 : decode cX4_rules 9 = .ok (.aload_n 0, 1) := dk_42 (dk_at dksX4_rules_0 9 rfl rfl)
theorem dX4_rules_10 : decode cX4_rules 10 = .ok (.iconst 0, 1) := dk_3 (dk_at dksX4_rules_0 10 rfl rfl)
theorem dX4_rules_11 : decode cX4_rules 11 = .ok (.putfield 297, 3) := dk_181 1 41 (dk_at dksX4_rules_0 11 rfl rfl)
theorem dX4_rules_14 : decode cX4_rules 14 = .ok (.iconst (-1), 1) := dk_2 (dk_at dksX4_rules_0 14 rfl rfl)
theorem dX4_rules_15 : decode cX4_rules 15 = .ok (.ireturn, 1) := dk_172 (dk_at dksX4_rules_0 15 rfl rfl)
theorem dX4_rules_16 : decode cX4_rules 16 = .ok (.aload_n 0, 1) := dk_42 (dk_at dksX4_rules_0 16 rfl rfl)
theorem dX4_rules_17 : decode cX4_rules 17 = .ok (.iconst 0, 1) := dk_3 (dk_at dksX4_rules_0 17 rfl rfl)
theorem dX4_rules_18 : decode cX4_rules 18 = .ok (.putfield 367, 3) := dk_181 1 111 (dk_at dksX4_rules_0 18 rfl rfl)
theorem dX4_rules_21 : decode cX4_rules 21 = .ok (.aload_n 0, 1) := dk_42 (dk_at dksX4_rules_0 21 rfl rfl)
theorem dX4_rules_22 : decode cX4_rules 22 = .ok (.iconst 0, 1) := dk_3 (dk_at dksX4_rules_0 22 rfl rfl)
theorem dX4_rules_23 : decode cX4_rules 23 = .ok (.putfield 342, 3) := dk_181 1 86 (dk_at dksX4_rules_1 0 rfl rfl)
theorem dX4_rules_26 : decode cX4_rules 26 = .ok (.aload_n 0, 1) := dk_42 (dk_at dksX4_rules_1 3 rfl rfl)
theorem dX4_rules_27 : decode cX4_rules 27 = .ok (.iconst 0, 1) := dk_3 (dk_at dksX4_rules_1 4 rfl rfl)
theorem dX4_rules_28 : decode cX4_rules 28 = .ok (.putfield 411, 3) := dk_181 1 155 (dk_at dksX4_rules_1 5 rfl rfl)
theorem dX4_rules_31 : decode cX4_rules 31 = .ok (.aload_n 0, 1) := dk_42 (dk_at dksX4_rules_1 8 rfl rfl)
theorem dX4_rules_32 : decode cX4_rules 32 = .ok (.iconst 0, 1) := dk_3 (dk_at dksX4_rules_1 9 rfl rfl)
theorem dX4_rules_33 : decode cX4_rules 33 = .ok (.putfield 379, 3) := dk_181 1 123 (dk_at dksX4_rules_1 10 rfl rfl)
theorem dX4_rules_36 : decode cX4_rules 36 = .ok (.aload_n 0, 1) := dk_42 (dk_at dksX4_rules_1 13 rfl rfl)
theorem dX4_rules_37 : decode cX4_rules 37 = .ok (.invokevirtual 376, 3) := dk_182 1 120 (dk_at dksX4_rules_1 14 rfl rfl)
theorem dX4_rules_40 : decode cX4_rules 40 = .ok (.iconst 1, 1) := dk_4 (dk_at dksX4_rules_1 17 rfl rfl)
theorem dX4_rules_41 : decode cX4_rules 41 = .ok (.istore_n 2, 1) := dk_61 (dk_at dksX4_rules_1 18 rfl rfl)
theorem dX4_rules_42 : decode cX4_rules 42 = .ok (.iload_n 2, 1) := dk_28 (dk_at dksX4_rules_1 19 rfl rfl)
theorem dX4_rules_43 : decode cX4_rules 43 = .ok (.ifCond .eq 18, 3) := dk_153 0 18 (dk_at dksX4_rules_1 20 rfl rfl)
theorem dX4_rules_46 : decode cX4_rules 46 = .ok (.aload_n 0, 1) := dk_42 (dk_at dksX4_rules_1 23 rfl rfl)
theorem dX4_rules_47 : decode cX4_rules 47 = .ok (.getfield 351, 3) := dk_180 1 95 (dk_at dksX4_rules_2 0 rfl rfl)
theorem dX4_rules_50 : decode cX4_rules 50 = .ok (.ifCond .eq 11, 3) := dk_153 0 11 (dk_at dksX4_rules_2 3 rfl rfl)
theorem dX4_rules_53 : decode cX4_rules 53 = .ok (.aload_n 0, 1) := dk_42 (dk_at dksX4_rules_2 6 rfl rfl)
theorem dX4_rules_54 : decode cX4_rules 54 = .ok (.invokevirtual 423, 3) := dk_182 1 167 (dk_at dksX4_rules_2 7 rfl rfl)
theorem dX4_rules_57 : decode cX4_rules 57 = .ok (.istore_n 2, 1) := dk_61 (dk_at dksX4_rules_2 10 rfl rfl)
theorem dX4_rules_58 : decode cX4_rules 58 = .ok (.goto (-16), 3) := dk_167 255 240 (dk_at dksX4_rules_2 11 rfl rfl)
theorem dX4_rules_61 : decode cX4_rules 61 = .ok (.aload_n 0, 1) := dk_42 (dk_at dksX4_rules_2 14 rfl rfl)
theorem dX4_rules_62 : decode cX4_rules 62 = .ok (.iconst 0, 1) := dk_3 (dk_at dksX4_rules_2 15 rfl rfl)
theorem dX4_rules_63 : decode cX4_rules 63 = .ok (.putfield 297, 3) := dk_181 1 41 (dk_at dksX4_rules_2 16 rfl rfl)
theorem dX4_rules_66 : decode cX4_rules 66 = .ok (.aload_n 0, 1) := dk_42 (dk_at dksX4_rules_2 19 rfl rfl)
theorem dX4_rules_67 : decode cX4_rules 67 = .ok (.aload_n 0, 1) := dk_42 (dk_at dksX4_rules_2 20 rfl rfl)
theorem dX4_rules_68 : decode cX4_rules 68 = .ok (.getfield 367, 3) := dk_180 1 111 (dk_at dksX4_rules_2 21 rfl rfl)
theorem dX4_rules_71 : decode cX4_rules 71 = .ok (.putfield 426, 3) := dk_181 1 170 (dk_at dksX4_rules_3 0 rfl rfl)
theorem dX4_rules_74 : decode cX4_rules 74 = .ok (.aload_n 0, 1) := dk_42 (dk_at dksX4_rules_3 3 rfl rfl)
theorem dX4_rules_75 : decode cX4_rules 75 = .ok (.iload_n 2, 1) := dk_28 (dk_at dksX4_rules_3 4 rfl rfl)
theorem dX4_rules_76 : decode cX4_rules 76 = .ok (.ifCond .eq 7, 3) := dk_153 0 7 (dk_at dksX4_rules_3 5 rfl rfl)
theorem dX4_rules_79 : decode cX4_rules 79 = .ok (.iconst (-1), 1) := dk_2 (dk_at dksX4_rules_3 8 rfl rfl)
theorem dX4_rules_80 : decode cX4_rules 80 = .ok (.goto 7, 3) := dk_167 0 7 (dk_at dksX4_rules_3 9 rfl rfl)
theorem dX4_rules_83 : decode cX4_rules 83 = .ok (.aload_n 0, 1) := dk_42 (dk_at dksX4_rules_3 12 rfl rfl)
theorem dX4_rules_84 : decode cX4_rules 84 = .ok (.getfield 370, 3) := dk_180 1 114 (dk_at dksX4_rules_3 13 rfl rfl)
theorem dX4_rules_87 : decode cX4_rules 87 = .ok (.putfield 105, 3) := dk_181 0 105 (dk_at dksX4_rules_3 16 rfl rfl)
theorem dX4_rules_90 : decode cX4_rules 90 = .ok (.iload_n 2, 1) := dk_28 (dk_at dksX4_rules_3 19 rfl rfl)
theorem dX4_rules_91 : decode cX4_rules 91 = .ok (.ifCond .ne 5, 3) := dk_154 0 5 (dk_at dksX4_rules_3 20 rfl rfl)
theorem dX4_rules_94 : decode cX4_rules 94 = .ok (.iconst (-1), 1) := dk_2 (dk_at dksX4_rules_3 23 rfl rfl)
theorem dX4_rules_95 : decode cX4_rules 95 = .ok (.ireturn, 1) := dk_172 (dk_at dksX4_rules_4 0 rfl rfl)
theorem dX4_rules_96 : decode cX4_rules 96 = .ok (.aload_n 0, 1) := dk_42 (dk_at dksX4_rules_4 1 rfl rfl)
theorem dX4_rules_97 : decode cX4_rules 97 = .ok (.iload_n 1, 1) := dk_27 (dk_at dksX4_rules_4 2 rfl rfl)
theorem dX4_rules_98 : decode cX4_rules 98 = .ok (.invokevirtual 429, 3) := dk_182 1 173 (dk_at dksX4_rules_4 3 rfl rfl)
theorem dX4_rules_101 : decode cX4_rules 101 = .ok (.aload_n 0, 1) := dk_42 (dk_at dksX4_rules_4 6 rfl rfl)
theorem dX4_rules_102 : decode cX4_rules 102 = .ok (.getfield 411, 3) := dk_180 1 155 (dk_at dksX4_rules_4 7 rfl rfl)
theorem dX4_rules_105 : decode cX4_rules 105 = .ok (.ireturn, 1) := dk_172 (dk_at dksX4_rules_4 10 rfl rfl)
abbrev cX4_next0 : ByteArray := prog_23_method_27_code
def yX4_next0 : MethodName := ⟨RX4, "next0", "()V"⟩
def dkwX4_next0_13 : List UInt8 := [160, 0, 7, 4, 167, 0, 4, 3, 62, 42, 29, 153, 0, 7, 27, 167, 0, 4, 4, 181, 1, 95, 177]
abbrev dktX4_next0_13 : List UInt8 := dkwX4_next0_13 ++ []
def dkwX4_next0_12 : List UInt8 := [159, 0, 27, 27, 16, 41, 159, 0, 21, 27, 16, 60, 159, 0, 15, 27, 16, 61, 159, 0, 9, 27, 16, 62]
abbrev dktX4_next0_12 : List UInt8 := dkwX4_next0_12 ++ dktX4_next0_13
def dkwX4_next0_11 : List UInt8 := [159, 0, 51, 27, 16, 45, 159, 0, 45, 27, 16, 42, 159, 0, 39, 27, 16, 47, 159, 0, 33, 27, 16, 40]
abbrev dktX4_next0_11 : List UInt8 := dkwX4_next0_11 ++ dktX4_next0_12
def dkwX4_next0_10 : List UInt8 := [167, 0, 92, 42, 89, 180, 1, 86, 4, 96, 181, 1, 86, 27, 16, 59, 159, 0, 57, 27, 16, 43]
abbrev dktX4_next0_10 : List UInt8 := dkwX4_next0_10 ++ dktX4_next0_11
def dkwX4_next0_9 : List UInt8 := [4, 96, 181, 1, 86, 167, 255, 201, 42, 28, 8, 162, 0, 7, 5, 167, 0, 4, 4, 181, 1, 95]
abbrev dktX4_next0_9 : List UInt8 := dkwX4_next0_9 ++ dktX4_next0_10
def dkwX4_next0_8 : List UInt8 := [104, 42, 42, 180, 1, 86, 182, 1, 89, 96, 16, 48, 100, 181, 1, 108, 132, 2, 1, 42, 89, 180, 1, 86]
abbrev dktX4_next0_8 : List UInt8 := dkwX4_next0_8 ++ dktX4_next0_9
def dkwX4_next0_7 : List UInt8 := [180, 1, 86, 182, 1, 89, 184, 1, 105, 153, 0, 47, 28, 7, 162, 0, 26, 42, 16, 10, 42, 180, 1, 108]
abbrev dktX4_next0_7 : List UInt8 := dkwX4_next0_7 ++ dktX4_next0_8
def dkwX4_next0_6 : List UInt8 := [167, 0, 4, 4, 181, 1, 95, 167, 0, 179, 27, 184, 1, 105, 153, 0, 83, 42, 3, 181, 1, 108, 42, 42]
abbrev dktX4_next0_6 : List UInt8 := dkwX4_next0_6 ++ dktX4_next0_7
def dkwX4_next0_5 : List UInt8 := [89, 180, 1, 86, 4, 96, 181, 1, 86, 167, 255, 208, 42, 28, 16, 9, 162, 0, 10, 33, 184, 1, 101]
abbrev dktX4_next0_5 : List UInt8 := dkwX4_next0_5 ++ dktX4_next0_6
def dkwX4_next0_4 : List UInt8 := [16, 8, 162, 0, 18, 33, 16, 8, 121, 42, 42, 180, 1, 86, 182, 1, 89, 133, 129, 66, 132, 2, 1, 42]
abbrev dktX4_next0_4 : List UInt8 := dkwX4_next0_4 ++ dktX4_next0_5
def dkwX4_next0_3 : List UInt8 := [27, 184, 1, 98, 153, 0, 77, 9, 66, 42, 42, 180, 1, 86, 182, 1, 89, 184, 1, 98, 153, 0, 40, 28]
abbrev dktX4_next0_3 : List UInt8 := dkwX4_next0_3 ++ dktX4_next0_4
def dkwX4_next0_2 : List UInt8 := [42, 42, 180, 1, 86, 182, 1, 89, 60, 3, 61, 27, 2, 160, 0, 11, 42, 3, 181, 1, 95, 167, 1, 4]
abbrev dktX4_next0_2 : List UInt8 := dkwX4_next0_2 ++ dktX4_next0_3
def dkwX4_next0_1 : List UInt8 := [160, 0, 16, 42, 89, 180, 1, 86, 4, 96, 181, 1, 86, 167, 255, 220, 42, 42, 180, 1, 86, 181, 1, 92]
abbrev dktX4_next0_1 : List UInt8 := dkwX4_next0_1 ++ dktX4_next0_2
def dkwX4_next0_0 : List UInt8 := [42, 42, 180, 1, 86, 182, 1, 89, 16, 32, 159, 0, 16, 42, 42, 180, 1, 86, 182, 1, 89, 16, 10]
abbrev dktX4_next0_0 : List UInt8 := dkwX4_next0_0 ++ dktX4_next0_1
theorem dksX4_next0_0 : cX4_next0.data.toList.drop 0 = dktX4_next0_0 := by decide +kernel
theorem dksX4_next0_1 : cX4_next0.data.toList.drop 23 = dktX4_next0_1 := dk_seg dksX4_next0_0 23 rfl rfl
theorem dksX4_next0_2 : cX4_next0.data.toList.drop 47 = dktX4_next0_2 := dk_seg dksX4_next0_1 24 rfl rfl
theorem dksX4_next0_3 : cX4_next0.data.toList.drop 71 = dktX4_next0_3 := dk_seg dksX4_next0_2 24 rfl rfl
theorem dksX4_next0_4 : cX4_next0.data.toList.drop 95 = dktX4_next0_4 := dk_seg dksX4_next0_3 24 rfl rfl
theorem dksX4_next0_5 : cX4_next0.data.toList.drop 119 = dktX4_next0_5 := dk_seg dksX4_next0_4 24 rfl rfl
theorem dksX4_next0_6 : cX4_next0.data.toList.drop 142 = dktX4_next0_6 := dk_seg dksX4_next0_5 23 rfl rfl
theorem dksX4_next0_7 : cX4_next0.data.toList.drop 166 = dktX4_next0_7 := dk_seg dksX4_next0_6 24 rfl rfl
theorem dksX4_next0_8 : cX4_next0.data.toList.drop 190 = dktX4_next0_8 := dk_seg dksX4_next0_7 24 rfl rfl
theorem dksX4_next0_9 : cX4_next0.data.toList.drop 214 = dktX4_next0_9 := dk_seg dksX4_next0_8 24 rfl rfl
theorem dksX4_next0_10 : cX4_next0.data.toList.drop 236 = dktX4_next0_10 := dk_seg dksX4_next0_9 22 rfl rfl
theorem dksX4_next0_11 : cX4_next0.data.toList.drop 258 = dktX4_next0_11 := dk_seg dksX4_next0_10 22 rfl rfl
theorem dksX4_next0_12 : cX4_next0.data.toList.drop 282 = dktX4_next0_12 := dk_seg dksX4_next0_11 24 rfl rfl
theorem dksX4_next0_13 : cX4_next0.data.toList.drop 306 = dktX4_next0_13 := dk_seg dksX4_next0_12 24 rfl rfl
theorem dX4_next0_0 : decode cX4_next0 0 = .ok (.aload_n 0, 1) := dk_42 (dk_at dksX4_next0_0 0 rfl rfl)
theorem dX4_next0_1 : decode cX4_next0 1 = .ok (.aload_n 0, 1) := dk_42 (dk_at dksX4_next0_0 1 rfl rfl)
theorem dX4_next0_2 : decode cX4_next0 2 = .ok (.getfield 342, 3) := dk_180 1 86 (dk_at dksX4_next0_0 2 rfl rfl)
theorem dX4_next0_5 : decode cX4_next0 5 = .ok (.invokevirtual 345, 3) := dk_182 1 89 (dk_at dksX4_next0_0 5 rfl rfl)
theorem dX4_next0_8 : decode cX4_next0 8 = .ok (.bipush 32, 2) := dk_16 32 (dk_at dksX4_next0_0 8 rfl rfl)
theorem dX4_next0_10 : decode cX4_next0 10 = .ok (.if_icmp .eq 16, 3) := dk_159 0 16 (dk_at dksX4_next0_0 10 rfl rfl)
theorem dX4_next0_13 : decode cX4_next0 13 = .ok (.aload_n 0, 1) := dk_42 (dk_at dksX4_next0_0 13 rfl rfl)
theorem dX4_next0_14 : decode cX4_next0 14 = .ok (.aload_n 0, 1) := dk_42 (dk_at dksX4_next0_0 14 rfl rfl)
theorem dX4_next0_15 : decode cX4_next0 15 = .ok (.getfield 342, 3) := dk_180 1 86 (dk_at dksX4_next0_0 15 rfl rfl)
theorem dX4_next0_18 : decode cX4_next0 18 = .ok (.invokevirtual 345, 3) := dk_182 1 89 (dk_at dksX4_next0_0 18 rfl rfl)
theorem dX4_next0_21 : decode cX4_next0 21 = .ok (.bipush 10, 2) := dk_16 10 (dk_at dksX4_next0_0 21 rfl rfl)
theorem dX4_next0_23 : decode cX4_next0 23 = .ok (.if_icmp .ne 16, 3) := dk_160 0 16 (dk_at dksX4_next0_1 0 rfl rfl)
theorem dX4_next0_26 : decode cX4_next0 26 = .ok (.aload_n 0, 1) := dk_42 (dk_at dksX4_next0_1 3 rfl rfl)
theorem dX4_next0_27 : decode cX4_next0 27 = .ok (.dup, 1) := dk_89 (dk_at dksX4_next0_1 4 rfl rfl)
theorem dX4_next0_28 : decode cX4_next0 28 = .ok (.getfield 342, 3) := dk_180 1 86 (dk_at dksX4_next0_1 5 rfl rfl)
theorem dX4_next0_31 : decode cX4_next0 31 = .ok (.iconst 1, 1) := dk_4 (dk_at dksX4_next0_1 8 rfl rfl)
theorem dX4_next0_32 : decode cX4_next0 32 = .ok (.iadd, 1) := dk_96 (dk_at dksX4_next0_1 9 rfl rfl)
theorem dX4_next0_33 : decode cX4_next0 33 = .ok (.putfield 342, 3) := dk_181 1 86 (dk_at dksX4_next0_1 10 rfl rfl)
theorem dX4_next0_36 : decode cX4_next0 36 = .ok (.goto (-36), 3) := dk_167 255 220 (dk_at dksX4_next0_1 13 rfl rfl)
theorem dX4_next0_39 : decode cX4_next0 39 = .ok (.aload_n 0, 1) := dk_42 (dk_at dksX4_next0_1 16 rfl rfl)
theorem dX4_next0_40 : decode cX4_next0 40 = .ok (.aload_n 0, 1) := dk_42 (dk_at dksX4_next0_1 17 rfl rfl)
theorem dX4_next0_41 : decode cX4_next0 41 = .ok (.getfield 342, 3) := dk_180 1 86 (dk_at dksX4_next0_1 18 rfl rfl)
theorem dX4_next0_44 : decode cX4_next0 44 = .ok (.putfield 348, 3) := dk_181 1 92 (dk_at dksX4_next0_1 21 rfl rfl)
theorem dX4_next0_47 : decode cX4_next0 47 = .ok (.aload_n 0, 1) := dk_42 (dk_at dksX4_next0_2 0 rfl rfl)
theorem dX4_next0_48 : decode cX4_next0 48 = .ok (.aload_n 0, 1) := dk_42 (dk_at dksX4_next0_2 1 rfl rfl)
theorem dX4_next0_49 : decode cX4_next0 49 = .ok (.getfield 342, 3) := dk_180 1 86 (dk_at dksX4_next0_2 2 rfl rfl)
theorem dX4_next0_52 : decode cX4_next0 52 = .ok (.invokevirtual 345, 3) := dk_182 1 89 (dk_at dksX4_next0_2 5 rfl rfl)
theorem dX4_next0_55 : decode cX4_next0 55 = .ok (.istore_n 1, 1) := dk_60 (dk_at dksX4_next0_2 8 rfl rfl)
theorem dX4_next0_56 : decode cX4_next0 56 = .ok (.iconst 0, 1) := dk_3 (dk_at dksX4_next0_2 9 rfl rfl)
theorem dX4_next0_57 : decode cX4_next0 57 = .ok (.istore_n 2, 1) := dk_61 (dk_at dksX4_next0_2 10 rfl rfl)
theorem dX4_next0_58 : decode cX4_next0 58 = .ok (.iload_n 1, 1) := dk_27 (dk_at dksX4_next0_2 11 rfl rfl)
theorem dX4_next0_59 : decode cX4_next0 59 = .ok (.iconst (-1), 1) := dk_2 (dk_at dksX4_next0_2 12 rfl rfl)
theorem dX4_next0_60 : decode cX4_next0 60 = .ok (.if_icmp .ne 11, 3) := dk_160 0 11 (dk_at dksX4_next0_2 13 rfl rfl)
theorem dX4_next0_63 : decode cX4_next0 63 = .ok (.aload_n 0, 1) := dk_42 (dk_at dksX4_next0_2 16 rfl rfl)
theorem dX4_next0_64 : decode cX4_next0 64 = .ok (.iconst 0, 1) := dk_3 (dk_at dksX4_next0_2 17 rfl rfl)
theorem dX4_next0_65 : decode cX4_next0 65 = .ok (.putfield 351, 3) := dk_181 1 95 (dk_at dksX4_next0_2 18 rfl rfl)
theorem dX4_next0_68 : decode cX4_next0 68 = .ok (.goto 260, 3) := dk_167 1 4 (dk_at dksX4_next0_2 21 rfl rfl)
theorem dX4_next0_71 : decode cX4_next0 71 = .ok (.iload_n 1, 1) := dk_27 (dk_at dksX4_next0_3 0 rfl rfl)
theorem dX4_next0_72 : decode cX4_next0 72 = .ok (.invokestatic 354, 3) := dk_184 1 98 (dk_at dksX4_next0_3 1 rfl rfl)
theorem dX4_next0_75 : decode cX4_next0 75 = .ok (.ifCond .eq 77, 3) := dk_153 0 77 (dk_at dksX4_next0_3 4 rfl rfl)
theorem dX4_next0_78 : decode cX4_next0 78 = .ok (.lconst 0, 1) := dk_9 (dk_at dksX4_next0_3 7 rfl rfl)
theorem dX4_next0_79 : decode cX4_next0 79 = .ok (.lstore_n 3, 1) := dk_66 (dk_at dksX4_next0_3 8 rfl rfl)
theorem dX4_next0_80 : decode cX4_next0 80 = .ok (.aload_n 0, 1) := dk_42 (dk_at dksX4_next0_3 9 rfl rfl)
theorem dX4_next0_81 : decode cX4_next0 81 = .ok (.aload_n 0, 1) := dk_42 (dk_at dksX4_next0_3 10 rfl rfl)
theorem dX4_next0_82 : decode cX4_next0 82 = .ok (.getfield 342, 3) := dk_180 1 86 (dk_at dksX4_next0_3 11 rfl rfl)
theorem dX4_next0_85 : decode cX4_next0 85 = .ok (.invokevirtual 345, 3) := dk_182 1 89 (dk_at dksX4_next0_3 14 rfl rfl)
theorem dX4_next0_88 : decode cX4_next0 88 = .ok (.invokestatic 354, 3) := dk_184 1 98 (dk_at dksX4_next0_3 17 rfl rfl)
theorem dX4_next0_91 : decode cX4_next0 91 = .ok (.ifCond .eq 40, 3) := dk_153 0 40 (dk_at dksX4_next0_3 20 rfl rfl)
theorem dX4_next0_94 : decode cX4_next0 94 = .ok (.iload_n 2, 1) := dk_28 (dk_at dksX4_next0_3 23 rfl rfl)
theorem dX4_next0_95 : decode cX4_next0 95 = .ok (.bipush 8, 2) := dk_16 8 (dk_at dksX4_next0_4 0 rfl rfl)
theorem dX4_next0_97 : decode cX4_next0 97 = .ok (.if_icmp .ge 18, 3) := dk_162 0 18 (dk_at dksX4_next0_4 2 rfl rfl)
theorem dX4_next0_100 : decode cX4_next0 100 = .ok (.lload_n 3, 1) := dk_33 (dk_at dksX4_next0_4 5 rfl rfl)
theorem dX4_next0_101 : decode cX4_next0 101 = .ok (.bipush 8, 2) := dk_16 8 (dk_at dksX4_next0_4 6 rfl rfl)
theorem dX4_next0_103 : decode cX4_next0 103 = .ok (.lshl, 1) := dk_121 (dk_at dksX4_next0_4 8 rfl rfl)
theorem dX4_next0_104 : decode cX4_next0 104 = .ok (.aload_n 0, 1) := dk_42 (dk_at dksX4_next0_4 9 rfl rfl)
theorem dX4_next0_105 : decode cX4_next0 105 = .ok (.aload_n 0, 1) := dk_42 (dk_at dksX4_next0_4 10 rfl rfl)
theorem dX4_next0_106 : decode cX4_next0 106 = .ok (.getfield 342, 3) := dk_180 1 86 (dk_at dksX4_next0_4 11 rfl rfl)
theorem dX4_next0_109 : decode cX4_next0 109 = .ok (.invokevirtual 345, 3) := dk_182 1 89 (dk_at dksX4_next0_4 14 rfl rfl)
theorem dX4_next0_112 : decode cX4_next0 112 = .ok (.i2l, 1) := dk_133 (dk_at dksX4_next0_4 17 rfl rfl)
theorem dX4_next0_113 : decode cX4_next0 113 = .ok (.lor, 1) := dk_129 (dk_at dksX4_next0_4 18 rfl rfl)
theorem dX4_next0_114 : decode cX4_next0 114 = .ok (.lstore_n 3, 1) := dk_66 (dk_at dksX4_next0_4 19 rfl rfl)
theorem dX4_next0_115 : decode cX4_next0 115 = .ok (.iinc 2 1, 3) := dk_132 2 1 (dk_at dksX4_next0_4 20 rfl rfl)
theorem dX4_next0_118 : decode cX4_next0 118 = .ok (.aload_n 0, 1) := dk_42 (dk_at dksX4_next0_4 23 rfl rfl)
theorem dX4_next0_119 : decode cX4_next0 119 = .ok (.dup, 1) := dk_89 (dk_at dksX4_next0_5 0 rfl rfl)
theorem dX4_next0_120 : decode cX4_next0 120 = .ok (.getfield 342, 3) := dk_180 1 86 (dk_at dksX4_next0_5 1 rfl rfl)
theorem dX4_next0_123 : decode cX4_next0 123 = .ok (.iconst 1, 1) := dk_4 (dk_at dksX4_next0_5 4 rfl rfl)
theorem dX4_next0_124 : decode cX4_next0 124 = .ok (.iadd, 1) := dk_96 (dk_at dksX4_next0_5 5 rfl rfl)
theorem dX4_next0_125 : decode cX4_next0 125 = .ok (.putfield 342, 3) := dk_181 1 86 (dk_at dksX4_next0_5 6 rfl rfl)
theorem dX4_next0_128 : decode cX4_next0 128 = .ok (.goto (-48), 3) := dk_167 255 208 (dk_at dksX4_next0_5 9 rfl rfl)
theorem dX4_next0_131 : decode cX4_next0 131 = .ok (.aload_n 0, 1) := dk_42 (dk_at dksX4_next0_5 12 rfl rfl)
theorem dX4_next0_132 : decode cX4_next0 132 = .ok (.iload_n 2, 1) := dk_28 (dk_at dksX4_next0_5 13 rfl rfl)
theorem dX4_next0_133 : decode cX4_next0 133 = .ok (.bipush 9, 2) := dk_16 9 (dk_at dksX4_next0_5 14 rfl rfl)
theorem dX4_next0_135 : decode cX4_next0 135 = .ok (.if_icmp .ge 10, 3) := dk_162 0 10 (dk_at dksX4_next0_5 16 rfl rfl)
theorem dX4_next0_138 : decode cX4_next0 138 = .ok (.lload_n 3, 1) := dk_33 (dk_at dksX4_next0_5 19 rfl rfl)
theorem dX4_next0_139 : decode cX4_next0 139 = .ok (.invokestatic 357, 3) := dk_184 1 101 (dk_at dksX4_next0_5 20 rfl rfl)
theorem dX4_next0_142 : decode cX4_next0 142 = .ok (.goto 4, 3) := dk_167 0 4 (dk_at dksX4_next0_6 0 rfl rfl)
theorem dX4_next0_145 : decode cX4_next0 145 = .ok (.iconst 1, 1) := dk_4 (dk_at dksX4_next0_6 3 rfl rfl)
theorem dX4_next0_146 : decode cX4_next0 146 = .ok (.putfield 351, 3) := dk_181 1 95 (dk_at dksX4_next0_6 4 rfl rfl)
theorem dX4_next0_149 : decode cX4_next0 149 = .ok (.goto 179, 3) := dk_167 0 179 (dk_at dksX4_next0_6 7 rfl rfl)
theorem dX4_next0_152 : decode cX4_next0 152 = .ok (.iload_n 1, 1) := dk_27 (dk_at dksX4_next0_6 10 rfl rfl)
theorem dX4_next0_153 : decode cX4_next0 153 = .ok (.invokestatic 361, 3) := dk_184 1 105 (dk_at dksX4_next0_6 11 rfl rfl)
theorem dX4_next0_156 : decode cX4_next0 156 = .ok (.ifCond .eq 83, 3) := dk_153 0 83 (dk_at dksX4_next0_6 14 rfl rfl)
theorem dX4_next0_159 : decode cX4_next0 159 = .ok (.aload_n 0, 1) := dk_42 (dk_at dksX4_next0_6 17 rfl rfl)
theorem dX4_next0_160 : decode cX4_next0 160 = .ok (.iconst 0, 1) := dk_3 (dk_at dksX4_next0_6 18 rfl rfl)
theorem dX4_next0_161 : decode cX4_next0 161 = .ok (.putfield 364, 3) := dk_181 1 108 (dk_at dksX4_next0_6 19 rfl rfl)
theorem dX4_next0_164 : decode cX4_next0 164 = .ok (.aload_n 0, 1) := dk_42 (dk_at dksX4_next0_6 22 rfl rfl)
theorem dX4_next0_165 : decode cX4_next0 165 = .ok (.aload_n 0, 1) := dk_42 (dk_at dksX4_next0_6 23 rfl rfl)
theorem dX4_next0_166 : decode cX4_next0 166 = .ok (.getfield 342, 3) := dk_180 1 86 (dk_at dksX4_next0_7 0 rfl rfl)
theorem dX4_next0_169 : decode cX4_next0 169 = .ok (.invokevirtual 345, 3) := dk_182 1 89 (dk_at dksX4_next0_7 3 rfl rfl)
theorem dX4_next0_172 : decode cX4_next0 172 = .ok (.invokestatic 361, 3) := dk_184 1 105 (dk_at dksX4_next0_7 6 rfl rfl)
theorem dX4_next0_175 : decode cX4_next0 175 = .ok (.ifCond .eq 47, 3) := dk_153 0 47 (dk_at dksX4_next0_7 9 rfl rfl)
theorem dX4_next0_178 : decode cX4_next0 178 = .ok (.iload_n 2, 1) := dk_28 (dk_at dksX4_next0_7 12 rfl rfl)
theorem dX4_next0_179 : decode cX4_next0 179 = .ok (.iconst 4, 1) := dk_7 (dk_at dksX4_next0_7 13 rfl rfl)
theorem dX4_next0_180 : decode cX4_next0 180 = .ok (.if_icmp .ge 26, 3) := dk_162 0 26 (dk_at dksX4_next0_7 14 rfl rfl)
theorem dX4_next0_183 : decode cX4_next0 183 = .ok (.aload_n 0, 1) := dk_42 (dk_at dksX4_next0_7 17 rfl rfl)
theorem dX4_next0_184 : decode cX4_next0 184 = .ok (.bipush 10, 2) := dk_16 10 (dk_at dksX4_next0_7 18 rfl rfl)
theorem dX4_next0_186 : decode cX4_next0 186 = .ok (.aload_n 0, 1) := dk_42 (dk_at dksX4_next0_7 20 rfl rfl)
theorem dX4_next0_187 : decode cX4_next0 187 = .ok (.getfield 364, 3) := dk_180 1 108 (dk_at dksX4_next0_7 21 rfl rfl)
theorem dX4_next0_190 : decode cX4_next0 190 = .ok (.imul, 1) := dk_104 (dk_at dksX4_next0_8 0 rfl rfl)
theorem dX4_next0_191 : decode cX4_next0 191 = .ok (.aload_n 0, 1) := dk_42 (dk_at dksX4_next0_8 1 rfl rfl)
theorem dX4_next0_192 : decode cX4_next0 192 = .ok (.aload_n 0, 1) := dk_42 (dk_at dksX4_next0_8 2 rfl rfl)
theorem dX4_next0_193 : decode cX4_next0 193 = .ok (.getfield 342, 3) := dk_180 1 86 (dk_at dksX4_next0_8 3 rfl rfl)
theorem dX4_next0_196 : decode cX4_next0 196 = .ok (.invokevirtual 345, 3) := dk_182 1 89 (dk_at dksX4_next0_8 6 rfl rfl)
theorem dX4_next0_199 : decode cX4_next0 199 = .ok (.iadd, 1) := dk_96 (dk_at dksX4_next0_8 9 rfl rfl)
theorem dX4_next0_200 : decode cX4_next0 200 = .ok (.bipush 48, 2) := dk_16 48 (dk_at dksX4_next0_8 10 rfl rfl)
theorem dX4_next0_202 : decode cX4_next0 202 = .ok (.isub, 1) := dk_100 (dk_at dksX4_next0_8 12 rfl rfl)
theorem dX4_next0_203 : decode cX4_next0 203 = .ok (.putfield 364, 3) := dk_181 1 108 (dk_at dksX4_next0_8 13 rfl rfl)
theorem dX4_next0_206 : decode cX4_next0 206 = .ok (.iinc 2 1, 3) := dk_132 2 1 (dk_at dksX4_next0_8 16 rfl rfl)
theorem dX4_next0_209 : decode cX4_next0 209 = .ok (.aload_n 0, 1) := dk_42 (dk_at dksX4_next0_8 19 rfl rfl)
theorem dX4_next0_210 : decode cX4_next0 210 = .ok (.dup, 1) := dk_89 (dk_at dksX4_next0_8 20 rfl rfl)
theorem dX4_next0_211 : decode cX4_next0 211 = .ok (.getfield 342, 3) := dk_180 1 86 (dk_at dksX4_next0_8 21 rfl rfl)
theorem dX4_next0_214 : decode cX4_next0 214 = .ok (.iconst 1, 1) := dk_4 (dk_at dksX4_next0_9 0 rfl rfl)
theorem dX4_next0_215 : decode cX4_next0 215 = .ok (.iadd, 1) := dk_96 (dk_at dksX4_next0_9 1 rfl rfl)
theorem dX4_next0_216 : decode cX4_next0 216 = .ok (.putfield 342, 3) := dk_181 1 86 (dk_at dksX4_next0_9 2 rfl rfl)
theorem dX4_next0_219 : decode cX4_next0 219 = .ok (.goto (-55), 3) := dk_167 255 201 (dk_at dksX4_next0_9 5 rfl rfl)
theorem dX4_next0_222 : decode cX4_next0 222 = .ok (.aload_n 0, 1) := dk_42 (dk_at dksX4_next0_9 8 rfl rfl)
theorem dX4_next0_223 : decode cX4_next0 223 = .ok (.iload_n 2, 1) := dk_28 (dk_at dksX4_next0_9 9 rfl rfl)
theorem dX4_next0_224 : decode cX4_next0 224 = .ok (.iconst 5, 1) := dk_8 (dk_at dksX4_next0_9 10 rfl rfl)
theorem dX4_next0_225 : decode cX4_next0 225 = .ok (.if_icmp .ge 7, 3) := dk_162 0 7 (dk_at dksX4_next0_9 11 rfl rfl)
theorem dX4_next0_228 : decode cX4_next0 228 = .ok (.iconst 2, 1) := dk_5 (dk_at dksX4_next0_9 14 rfl rfl)
theorem dX4_next0_229 : decode cX4_next0 229 = .ok (.goto 4, 3) := dk_167 0 4 (dk_at dksX4_next0_9 15 rfl rfl)
theorem dX4_next0_232 : decode cX4_next0 232 = .ok (.iconst 1, 1) := dk_4 (dk_at dksX4_next0_9 18 rfl rfl)
theorem dX4_next0_233 : decode cX4_next0 233 = .ok (.putfield 351, 3) := dk_181 1 95 (dk_at dksX4_next0_9 19 rfl rfl)
theorem dX4_next0_236 : decode cX4_next0 236 = .ok (.goto 92, 3) := dk_167 0 92 (dk_at dksX4_next0_10 0 rfl rfl)
theorem dX4_next0_239 : decode cX4_next0 239 = .ok (.aload_n 0, 1) := dk_42 (dk_at dksX4_next0_10 3 rfl rfl)
theorem dX4_next0_240 : decode cX4_next0 240 = .ok (.dup, 1) := dk_89 (dk_at dksX4_next0_10 4 rfl rfl)
theorem dX4_next0_241 : decode cX4_next0 241 = .ok (.getfield 342, 3) := dk_180 1 86 (dk_at dksX4_next0_10 5 rfl rfl)
theorem dX4_next0_244 : decode cX4_next0 244 = .ok (.iconst 1, 1) := dk_4 (dk_at dksX4_next0_10 8 rfl rfl)
theorem dX4_next0_245 : decode cX4_next0 245 = .ok (.iadd, 1) := dk_96 (dk_at dksX4_next0_10 9 rfl rfl)
theorem dX4_next0_246 : decode cX4_next0 246 = .ok (.putfield 342, 3) := dk_181 1 86 (dk_at dksX4_next0_10 10 rfl rfl)
theorem dX4_next0_249 : decode cX4_next0 249 = .ok (.iload_n 1, 1) := dk_27 (dk_at dksX4_next0_10 13 rfl rfl)
theorem dX4_next0_250 : decode cX4_next0 250 = .ok (.bipush 59, 2) := dk_16 59 (dk_at dksX4_next0_10 14 rfl rfl)
theorem dX4_next0_252 : decode cX4_next0 252 = .ok (.if_icmp .eq 57, 3) := dk_159 0 57 (dk_at dksX4_next0_10 16 rfl rfl)
theorem dX4_next0_255 : decode cX4_next0 255 = .ok (.iload_n 1, 1) := dk_27 (dk_at dksX4_next0_10 19 rfl rfl)
theorem dX4_next0_256 : decode cX4_next0 256 = .ok (.bipush 43, 2) := dk_16 43 (dk_at dksX4_next0_10 20 rfl rfl)
theorem dX4_next0_258 : decode cX4_next0 258 = .ok (.if_icmp .eq 51, 3) := dk_159 0 51 (dk_at dksX4_next0_11 0 rfl rfl)
theorem dX4_next0_261 : decode cX4_next0 261 = .ok (.iload_n 1, 1) := dk_27 (dk_at dksX4_next0_11 3 rfl rfl)
theorem dX4_next0_262 : decode cX4_next0 262 = .ok (.bipush 45, 2) := dk_16 45 (dk_at dksX4_next0_11 4 rfl rfl)
theorem dX4_next0_264 : decode cX4_next0 264 = .ok (.if_icmp .eq 45, 3) := dk_159 0 45 (dk_at dksX4_next0_11 6 rfl rfl)
theorem dX4_next0_267 : decode cX4_next0 267 = .ok (.iload_n 1, 1) := dk_27 (dk_at dksX4_next0_11 9 rfl rfl)
theorem dX4_next0_268 : decode cX4_next0 268 = .ok (.bipush 42, 2) := dk_16 42 (dk_at dksX4_next0_11 10 rfl rfl)
theorem dX4_next0_270 : decode cX4_next0 270 = .ok (.if_icmp .eq 39, 3) := dk_159 0 39 (dk_at dksX4_next0_11 12 rfl rfl)
theorem dX4_next0_273 : decode cX4_next0 273 = .ok (.iload_n 1, 1) := dk_27 (dk_at dksX4_next0_11 15 rfl rfl)
theorem dX4_next0_274 : decode cX4_next0 274 = .ok (.bipush 47, 2) := dk_16 47 (dk_at dksX4_next0_11 16 rfl rfl)
theorem dX4_next0_276 : decode cX4_next0 276 = .ok (.if_icmp .eq 33, 3) := dk_159 0 33 (dk_at dksX4_next0_11 18 rfl rfl)
theorem dX4_next0_279 : decode cX4_next0 279 = .ok (.iload_n 1, 1) := dk_27 (dk_at dksX4_next0_11 21 rfl rfl)
theorem dX4_next0_280 : decode cX4_next0 280 = .ok (.bipush 40, 2) := dk_16 40 (dk_at dksX4_next0_11 22 rfl rfl)
theorem dX4_next0_282 : decode cX4_next0 282 = .ok (.if_icmp .eq 27, 3) := dk_159 0 27 (dk_at dksX4_next0_12 0 rfl rfl)
theorem dX4_next0_285 : decode cX4_next0 285 = .ok (.iload_n 1, 1) := dk_27 (dk_at dksX4_next0_12 3 rfl rfl)
theorem dX4_next0_286 : decode cX4_next0 286 = .ok (.bipush 41, 2) := dk_16 41 (dk_at dksX4_next0_12 4 rfl rfl)
theorem dX4_next0_288 : decode cX4_next0 288 = .ok (.if_icmp .eq 21, 3) := dk_159 0 21 (dk_at dksX4_next0_12 6 rfl rfl)
theorem dX4_next0_291 : decode cX4_next0 291 = .ok (.iload_n 1, 1) := dk_27 (dk_at dksX4_next0_12 9 rfl rfl)
theorem dX4_next0_292 : decode cX4_next0 292 = .ok (.bipush 60, 2) := dk_16 60 (dk_at dksX4_next0_12 10 rfl rfl)
theorem dX4_next0_294 : decode cX4_next0 294 = .ok (.if_icmp .eq 15, 3) := dk_159 0 15 (dk_at dksX4_next0_12 12 rfl rfl)
theorem dX4_next0_297 : decode cX4_next0 297 = .ok (.iload_n 1, 1) := dk_27 (dk_at dksX4_next0_12 15 rfl rfl)
theorem dX4_next0_298 : decode cX4_next0 298 = .ok (.bipush 61, 2) := dk_16 61 (dk_at dksX4_next0_12 16 rfl rfl)
theorem dX4_next0_300 : decode cX4_next0 300 = .ok (.if_icmp .eq 9, 3) := dk_159 0 9 (dk_at dksX4_next0_12 18 rfl rfl)
theorem dX4_next0_303 : decode cX4_next0 303 = .ok (.iload_n 1, 1) := dk_27 (dk_at dksX4_next0_12 21 rfl rfl)
theorem dX4_next0_304 : decode cX4_next0 304 = .ok (.bipush 62, 2) := dk_16 62 (dk_at dksX4_next0_12 22 rfl rfl)
theorem dX4_next0_306 : decode cX4_next0 306 = .ok (.if_icmp .ne 7, 3) := dk_160 0 7 (dk_at dksX4_next0_13 0 rfl rfl)
theorem dX4_next0_309 : decode cX4_next0 309 = .ok (.iconst 1, 1) := dk_4 (dk_at dksX4_next0_13 3 rfl rfl)
theorem dX4_next0_310 : decode cX4_next0 310 = .ok (.goto 4, 3) := dk_167 0 4 (dk_at dksX4_next0_13 4 rfl rfl)
theorem dX4_next0_313 : decode cX4_next0 313 = .ok (.iconst 0, 1) := dk_3 (dk_at dksX4_next0_13 7 rfl rfl)
theorem dX4_next0_314 : decode cX4_next0 314 = .ok (.istore_n 3, 1) := dk_62 (dk_at dksX4_next0_13 8 rfl rfl)
theorem dX4_next0_315 : decode cX4_next0 315 = .ok (.aload_n 0, 1) := dk_42 (dk_at dksX4_next0_13 9 rfl rfl)
theorem dX4_next0_316 : decode cX4_next0 316 = .ok (.iload_n 3, 1) := dk_29 (dk_at dksX4_next0_13 10 rfl rfl)
theorem dX4_next0_317 : decode cX4_next0 317 = .ok (.ifCond .eq 7, 3) := dk_153 0 7 (dk_at dksX4_next0_13 11 rfl rfl)
theorem dX4_next0_320 : decode cX4_next0 320 = .ok (.iload_n 1, 1) := dk_27 (dk_at dksX4_next0_13 14 rfl rfl)
theorem dX4_next0_321 : decode cX4_next0 321 = .ok (.goto 4, 3) := dk_167 0 4 (dk_at dksX4_next0_13 15 rfl rfl)
theorem dX4_next0_324 : decode cX4_next0 324 = .ok (.iconst 1, 1) := dk_4 (dk_at dksX4_next0_13 18 rfl rfl)
theorem dX4_next0_325 : decode cX4_next0 325 = .ok (.putfield 351, 3) := dk_181 1 95 (dk_at dksX4_next0_13 19 rfl rfl)
theorem dX4_next0_328 : decode cX4_next0 328 = .ok (.return_, 1) := dk_177 (dk_at dksX4_next0_13 22 rfl rfl)
abbrev cX4_see : ByteArray := prog_23_method_23_code
def yX4_see : MethodName := ⟨RX4, "see", "(I)I"⟩
def dkwX4_see_0 : List UInt8 := [27, 42, 180, 1, 41, 162, 0, 12, 42, 180, 0, 99, 27, 46, 167, 0, 4, 2, 172]
abbrev dktX4_see_0 : List UInt8 := dkwX4_see_0 ++ []
theorem dksX4_see_0 : cX4_see.data.toList.drop 0 = dktX4_see_0 := by decide +kernel
theorem dX4_see_0 : decode cX4_see 0 = .ok (.iload_n 1, 1) := dk_27 (dk_at dksX4_see_0 0 rfl rfl)
theorem dX4_see_1 : decode cX4_see 1 = .ok (.aload_n 0, 1) := dk_42 (dk_at dksX4_see_0 1 rfl rfl)
theorem dX4_see_2 : decode cX4_see 2 = .ok (.getfield 297, 3) := dk_180 1 41 (dk_at dksX4_see_0 2 rfl rfl)
theorem dX4_see_5 : decode cX4_see 5 = .ok (.if_icmp .ge 12, 3) := dk_162 0 12 (dk_at dksX4_see_0 5 rfl rfl)
theorem dX4_see_8 : decode cX4_see 8 = .ok (.aload_n 0, 1) := dk_42 (dk_at dksX4_see_0 8 rfl rfl)
theorem dX4_see_9 : decode cX4_see 9 = .ok (.getfield 99, 3) := dk_180 0 99 (dk_at dksX4_see_0 9 rfl rfl)
theorem dX4_see_12 : decode cX4_see 12 = .ok (.iload_n 1, 1) := dk_27 (dk_at dksX4_see_0 12 rfl rfl)
theorem dX4_see_13 : decode cX4_see 13 = .ok (.iaload, 1) := dk_46 (dk_at dksX4_see_0 13 rfl rfl)
theorem dX4_see_14 : decode cX4_see 14 = .ok (.goto 4, 3) := dk_167 0 4 (dk_at dksX4_see_0 14 rfl rfl)
theorem dX4_see_17 : decode cX4_see 17 = .ok (.iconst (-1), 1) := dk_2 (dk_at dksX4_see_0 17 rfl rfl)
theorem dX4_see_18 : decode cX4_see 18 = .ok (.ireturn, 1) := dk_172 (dk_at dksX4_see_0 18 rfl rfl)
abbrev cX4_isLetter : ByteArray := prog_23_method_24_code
def yX4_isLetter : MethodName := ⟨RX4, "isLetter", "(I)Z"⟩
def dkwX4_isLetter_1 : List UInt8 := [167, 0, 4, 3, 172]
abbrev dktX4_isLetter_1 : List UInt8 := dkwX4_isLetter_1 ++ []
def dkwX4_isLetter_0 : List UInt8 := [26, 16, 97, 16, 122, 184, 0, 244, 154, 0, 14, 26, 16, 65, 16, 90, 184, 0, 244, 153, 0, 7, 4]
abbrev dktX4_isLetter_0 : List UInt8 := dkwX4_isLetter_0 ++ dktX4_isLetter_1
theorem dksX4_isLetter_0 : cX4_isLetter.data.toList.drop 0 = dktX4_isLetter_0 := by decide +kernel
theorem dksX4_isLetter_1 : cX4_isLetter.data.toList.drop 23 = dktX4_isLetter_1 := dk_seg dksX4_isLetter_0 23 rfl rfl
theorem dX4_isLetter_0 : decode cX4_isLetter 0 = .ok (.iload_n 0, 1) := dk_26 (dk_at dksX4_isLetter_0 0 rfl rfl)
theorem dX4_isLetter_1 : decode cX4_isLetter 1 = .ok (.bipush 97, 2) := dk_16 97 (dk_at dksX4_isLetter_0 1 rfl rfl)
theorem dX4_isLetter_3 : decode cX4_isLetter 3 = .ok (.bipush 122, 2) := dk_16 122 (dk_at dksX4_isLetter_0 3 rfl rfl)
theorem dX4_isLetter_5 : decode cX4_isLetter 5 = .ok (.invokestatic 244, 3) := dk_184 0 244 (dk_at dksX4_isLetter_0 5 rfl rfl)
theorem dX4_isLetter_8 : decode cX4_isLetter 8 = .ok (.ifCond .ne 14, 3) := dk_154 0 14 (dk_at dksX4_isLetter_0 8 rfl rfl)
theorem dX4_isLetter_11 : decode cX4_isLetter 11 = .ok (.iload_n 0, 1) := dk_26 (dk_at dksX4_isLetter_0 11 rfl rfl)
theorem dX4_isLetter_12 : decode cX4_isLetter 12 = .ok (.bipush 65, 2) := dk_16 65 (dk_at dksX4_isLetter_0 12 rfl rfl)
theorem dX4_isLetter_14 : decode cX4_isLetter 14 = .ok (.bipush 90, 2) := dk_16 90 (dk_at dksX4_isLetter_0 14 rfl rfl)
theorem dX4_isLetter_16 : decode cX4_isLetter 16 = .ok (.invokestatic 244, 3) := dk_184 0 244 (dk_at dksX4_isLetter_0 16 rfl rfl)
theorem dX4_isLetter_19 : decode cX4_isLetter 19 = .ok (.ifCond .eq 7, 3) := dk_153 0 7 (dk_at dksX4_isLetter_0 19 rfl rfl)
theorem dX4_isLetter_22 : decode cX4_isLetter 22 = .ok (.iconst 1, 1) := dk_4 (dk_at dksX4_isLetter_0 22 rfl rfl)
theorem dX4_isLetter_23 : decode cX4_isLetter 23 = .ok (.goto 4, 3) := dk_167 0 4 (dk_at dksX4_isLetter_1 0 rfl rfl)
theorem dX4_isLetter_26 : decode cX4_isLetter 26 = .ok (.iconst 0, 1) := dk_3 (dk_at dksX4_isLetter_1 3 rfl rfl)
theorem dX4_isLetter_27 : decode cX4_isLetter 27 = .ok (.ireturn, 1) := dk_172 (dk_at dksX4_isLetter_1 4 rfl rfl)
abbrev cX4_word : ByteArray := prog_23_method_26_code
def yX4_word : MethodName := ⟨RX4, "word", "(J)I"⟩
def dkwX4_word_10 : List UInt8 := [154, 0, 9, 17, 0, 208, 167, 0, 4, 4, 172]
abbrev dktX4_word_10 : List UInt8 := dkwX4_word_10 ++ []
def dkwX4_word_9 : List UInt8 := [154, 0, 7, 17, 0, 206, 172, 30, 20, 1, 82, 148, 154, 0, 7, 17, 0, 207, 172, 30, 20, 1, 84, 148]
abbrev dktX4_word_9 : List UInt8 := dkwX4_word_9 ++ dktX4_word_10
def dkwX4_word_8 : List UInt8 := [154, 0, 7, 17, 0, 204, 172, 30, 20, 1, 78, 148, 154, 0, 7, 17, 0, 205, 172, 30, 20, 1, 80, 148]
abbrev dktX4_word_8 : List UInt8 := dkwX4_word_8 ++ dktX4_word_9
def dkwX4_word_7 : List UInt8 := [154, 0, 7, 17, 0, 202, 172, 30, 20, 1, 74, 148, 154, 0, 7, 17, 0, 203, 172, 30, 20, 1, 76, 148]
abbrev dktX4_word_7 : List UInt8 := dkwX4_word_7 ++ dktX4_word_8
def dkwX4_word_6 : List UInt8 := [154, 0, 7, 17, 0, 153, 172, 30, 20, 1, 70, 148, 154, 0, 7, 17, 0, 201, 172, 30, 20, 1, 72, 148]
abbrev dktX4_word_6 : List UInt8 := dkwX4_word_6 ++ dktX4_word_7
def dkwX4_word_5 : List UInt8 := [154, 0, 7, 17, 0, 151, 172, 30, 20, 1, 66, 148, 154, 0, 7, 17, 0, 152, 172, 30, 20, 1, 68, 148]
abbrev dktX4_word_5 : List UInt8 := dkwX4_word_5 ++ dktX4_word_6
def dkwX4_word_4 : List UInt8 := [154, 0, 6, 16, 11, 172, 30, 20, 1, 62, 148, 154, 0, 7, 17, 0, 150, 172, 30, 20, 1, 64, 148]
abbrev dktX4_word_4 : List UInt8 := dkwX4_word_4 ++ dktX4_word_5
def dkwX4_word_3 : List UInt8 := [154, 0, 6, 16, 9, 172, 30, 20, 1, 58, 148, 154, 0, 6, 16, 10, 172, 30, 20, 1, 60, 148]
abbrev dktX4_word_3 : List UInt8 := dkwX4_word_3 ++ dktX4_word_4
def dkwX4_word_2 : List UInt8 := [154, 0, 6, 16, 7, 172, 30, 20, 1, 54, 148, 154, 0, 6, 16, 8, 172, 30, 20, 1, 56, 148]
abbrev dktX4_word_2 : List UInt8 := dkwX4_word_2 ++ dktX4_word_3
def dkwX4_word_1 : List UInt8 := [148, 154, 0, 5, 8, 172, 30, 20, 1, 50, 148, 154, 0, 6, 16, 6, 172, 30, 20, 1, 52, 148]
abbrev dktX4_word_1 : List UInt8 := dkwX4_word_1 ++ dktX4_word_2
def dkwX4_word_0 : List UInt8 := [30, 20, 1, 44, 148, 154, 0, 5, 6, 172, 30, 20, 1, 46, 148, 154, 0, 5, 7, 172, 30, 20, 1, 48]
abbrev dktX4_word_0 : List UInt8 := dkwX4_word_0 ++ dktX4_word_1
theorem dksX4_word_0 : cX4_word.data.toList.drop 0 = dktX4_word_0 := by decide +kernel
theorem dksX4_word_1 : cX4_word.data.toList.drop 24 = dktX4_word_1 := dk_seg dksX4_word_0 24 rfl rfl
theorem dksX4_word_2 : cX4_word.data.toList.drop 46 = dktX4_word_2 := dk_seg dksX4_word_1 22 rfl rfl
theorem dksX4_word_3 : cX4_word.data.toList.drop 68 = dktX4_word_3 := dk_seg dksX4_word_2 22 rfl rfl
theorem dksX4_word_4 : cX4_word.data.toList.drop 90 = dktX4_word_4 := dk_seg dksX4_word_3 22 rfl rfl
theorem dksX4_word_5 : cX4_word.data.toList.drop 113 = dktX4_word_5 := dk_seg dksX4_word_4 23 rfl rfl
theorem dksX4_word_6 : cX4_word.data.toList.drop 137 = dktX4_word_6 := dk_seg dksX4_word_5 24 rfl rfl
theorem dksX4_word_7 : cX4_word.data.toList.drop 161 = dktX4_word_7 := dk_seg dksX4_word_6 24 rfl rfl
theorem dksX4_word_8 : cX4_word.data.toList.drop 185 = dktX4_word_8 := dk_seg dksX4_word_7 24 rfl rfl
theorem dksX4_word_9 : cX4_word.data.toList.drop 209 = dktX4_word_9 := dk_seg dksX4_word_8 24 rfl rfl
theorem dksX4_word_10 : cX4_word.data.toList.drop 233 = dktX4_word_10 := dk_seg dksX4_word_9 24 rfl rfl
theorem dX4_word_0 : decode cX4_word 0 = .ok (.lload_n 0, 1) := dk_30 (dk_at dksX4_word_0 0 rfl rfl)
theorem dX4_word_1 : decode cX4_word 1 = .ok (.ldc2_w 300, 3) := dk_20 1 44 (dk_at dksX4_word_0 1 rfl rfl)
theorem dX4_word_4 : decode cX4_word 4 = .ok (.lcmp, 1) := dk_148 (dk_at dksX4_word_0 4 rfl rfl)
theorem dX4_word_5 : decode cX4_word 5 = .ok (.ifCond .ne 5, 3) := dk_154 0 5 (dk_at dksX4_word_0 5 rfl rfl)
theorem dX4_word_8 : decode cX4_word 8 = .ok (.iconst 3, 1) := dk_6 (dk_at dksX4_word_0 8 rfl rfl)
theorem dX4_word_9 : decode cX4_word 9 = .ok (.ireturn, 1) := dk_172 (dk_at dksX4_word_0 9 rfl rfl)
theorem dX4_word_10 : decode cX4_word 10 = .ok (.lload_n 0, 1) := dk_30 (dk_at dksX4_word_0 10 rfl rfl)
theorem dX4_word_11 : decode cX4_word 11 = .ok (.ldc2_w 302, 3) := dk_20 1 46 (dk_at dksX4_word_0 11 rfl rfl)
theorem dX4_word_14 : decode cX4_word 14 = .ok (.lcmp, 1) := dk_148 (dk_at dksX4_word_0 14 rfl rfl)
theorem dX4_word_15 : decode cX4_word 15 = .ok (.ifCond .ne 5, 3) := dk_154 0 5 (dk_at dksX4_word_0 15 rfl rfl)
theorem dX4_word_18 : decode cX4_word 18 = .ok (.iconst 4, 1) := dk_7 (dk_at dksX4_word_0 18 rfl rfl)
theorem dX4_word_19 : decode cX4_word 19 = .ok (.ireturn, 1) := dk_172 (dk_at dksX4_word_0 19 rfl rfl)
theorem dX4_word_20 : decode cX4_word 20 = .ok (.lload_n 0, 1) := dk_30 (dk_at dksX4_word_0 20 rfl rfl)
theorem dX4_word_21 : decode cX4_word 21 = .ok (.ldc2_w 304, 3) := dk_20 1 48 (dk_at dksX4_word_0 21 rfl rfl)
theorem dX4_word_24 : decode cX4_word 24 = .ok (.lcmp, 1) := dk_148 (dk_at dksX4_word_1 0 rfl rfl)
theorem dX4_word_25 : decode cX4_word 25 = .ok (.ifCond .ne 5, 3) := dk_154 0 5 (dk_at dksX4_word_1 1 rfl rfl)
theorem dX4_word_28 : decode cX4_word 28 = .ok (.iconst 5, 1) := dk_8 (dk_at dksX4_word_1 4 rfl rfl)
theorem dX4_word_29 : decode cX4_word 29 = .ok (.ireturn, 1) := dk_172 (dk_at dksX4_word_1 5 rfl rfl)
theorem dX4_word_30 : decode cX4_word 30 = .ok (.lload_n 0, 1) := dk_30 (dk_at dksX4_word_1 6 rfl rfl)
theorem dX4_word_31 : decode cX4_word 31 = .ok (.ldc2_w 306, 3) := dk_20 1 50 (dk_at dksX4_word_1 7 rfl rfl)
theorem dX4_word_34 : decode cX4_word 34 = .ok (.lcmp, 1) := dk_148 (dk_at dksX4_word_1 10 rfl rfl)
theorem dX4_word_35 : decode cX4_word 35 = .ok (.ifCond .ne 6, 3) := dk_154 0 6 (dk_at dksX4_word_1 11 rfl rfl)
theorem dX4_word_38 : decode cX4_word 38 = .ok (.bipush 6, 2) := dk_16 6 (dk_at dksX4_word_1 14 rfl rfl)
theorem dX4_word_40 : decode cX4_word 40 = .ok (.ireturn, 1) := dk_172 (dk_at dksX4_word_1 16 rfl rfl)
theorem dX4_word_41 : decode cX4_word 41 = .ok (.lload_n 0, 1) := dk_30 (dk_at dksX4_word_1 17 rfl rfl)
theorem dX4_word_42 : decode cX4_word 42 = .ok (.ldc2_w 308, 3) := dk_20 1 52 (dk_at dksX4_word_1 18 rfl rfl)
theorem dX4_word_45 : decode cX4_word 45 = .ok (.lcmp, 1) := dk_148 (dk_at dksX4_word_1 21 rfl rfl)
theorem dX4_word_46 : decode cX4_word 46 = .ok (.ifCond .ne 6, 3) := dk_154 0 6 (dk_at dksX4_word_2 0 rfl rfl)
theorem dX4_word_49 : decode cX4_word 49 = .ok (.bipush 7, 2) := dk_16 7 (dk_at dksX4_word_2 3 rfl rfl)
theorem dX4_word_51 : decode cX4_word 51 = .ok (.ireturn, 1) := dk_172 (dk_at dksX4_word_2 5 rfl rfl)
theorem dX4_word_52 : decode cX4_word 52 = .ok (.lload_n 0, 1) := dk_30 (dk_at dksX4_word_2 6 rfl rfl)
theorem dX4_word_53 : decode cX4_word 53 = .ok (.ldc2_w 310, 3) := dk_20 1 54 (dk_at dksX4_word_2 7 rfl rfl)
theorem dX4_word_56 : decode cX4_word 56 = .ok (.lcmp, 1) := dk_148 (dk_at dksX4_word_2 10 rfl rfl)
theorem dX4_word_57 : decode cX4_word 57 = .ok (.ifCond .ne 6, 3) := dk_154 0 6 (dk_at dksX4_word_2 11 rfl rfl)
theorem dX4_word_60 : decode cX4_word 60 = .ok (.bipush 8, 2) := dk_16 8 (dk_at dksX4_word_2 14 rfl rfl)
theorem dX4_word_62 : decode cX4_word 62 = .ok (.ireturn, 1) := dk_172 (dk_at dksX4_word_2 16 rfl rfl)
theorem dX4_word_63 : decode cX4_word 63 = .ok (.lload_n 0, 1) := dk_30 (dk_at dksX4_word_2 17 rfl rfl)
theorem dX4_word_64 : decode cX4_word 64 = .ok (.ldc2_w 312, 3) := dk_20 1 56 (dk_at dksX4_word_2 18 rfl rfl)
theorem dX4_word_67 : decode cX4_word 67 = .ok (.lcmp, 1) := dk_148 (dk_at dksX4_word_2 21 rfl rfl)
theorem dX4_word_68 : decode cX4_word 68 = .ok (.ifCond .ne 6, 3) := dk_154 0 6 (dk_at dksX4_word_3 0 rfl rfl)
theorem dX4_word_71 : decode cX4_word 71 = .ok (.bipush 9, 2) := dk_16 9 (dk_at dksX4_word_3 3 rfl rfl)
theorem dX4_word_73 : decode cX4_word 73 = .ok (.ireturn, 1) := dk_172 (dk_at dksX4_word_3 5 rfl rfl)
theorem dX4_word_74 : decode cX4_word 74 = .ok (.lload_n 0, 1) := dk_30 (dk_at dksX4_word_3 6 rfl rfl)
theorem dX4_word_75 : decode cX4_word 75 = .ok (.ldc2_w 314, 3) := dk_20 1 58 (dk_at dksX4_word_3 7 rfl rfl)
theorem dX4_word_78 : decode cX4_word 78 = .ok (.lcmp, 1) := dk_148 (dk_at dksX4_word_3 10 rfl rfl)
theorem dX4_word_79 : decode cX4_word 79 = .ok (.ifCond .ne 6, 3) := dk_154 0 6 (dk_at dksX4_word_3 11 rfl rfl)
theorem dX4_word_82 : decode cX4_word 82 = .ok (.bipush 10, 2) := dk_16 10 (dk_at dksX4_word_3 14 rfl rfl)
theorem dX4_word_84 : decode cX4_word 84 = .ok (.ireturn, 1) := dk_172 (dk_at dksX4_word_3 16 rfl rfl)
theorem dX4_word_85 : decode cX4_word 85 = .ok (.lload_n 0, 1) := dk_30 (dk_at dksX4_word_3 17 rfl rfl)
theorem dX4_word_86 : decode cX4_word 86 = .ok (.ldc2_w 316, 3) := dk_20 1 60 (dk_at dksX4_word_3 18 rfl rfl)
theorem dX4_word_89 : decode cX4_word 89 = .ok (.lcmp, 1) := dk_148 (dk_at dksX4_word_3 21 rfl rfl)
theorem dX4_word_90 : decode cX4_word 90 = .ok (.ifCond .ne 6, 3) := dk_154 0 6 (dk_at dksX4_word_4 0 rfl rfl)
theorem dX4_word_93 : decode cX4_word 93 = .ok (.bipush 11, 2) := dk_16 11 (dk_at dksX4_word_4 3 rfl rfl)
theorem dX4_word_95 : decode cX4_word 95 = .ok (.ireturn, 1) := dk_172 (dk_at dksX4_word_4 5 rfl rfl)
theorem dX4_word_96 : decode cX4_word 96 = .ok (.lload_n 0, 1) := dk_30 (dk_at dksX4_word_4 6 rfl rfl)
theorem dX4_word_97 : decode cX4_word 97 = .ok (.ldc2_w 318, 3) := dk_20 1 62 (dk_at dksX4_word_4 7 rfl rfl)
theorem dX4_word_100 : decode cX4_word 100 = .ok (.lcmp, 1) := dk_148 (dk_at dksX4_word_4 10 rfl rfl)
theorem dX4_word_101 : decode cX4_word 101 = .ok (.ifCond .ne 7, 3) := dk_154 0 7 (dk_at dksX4_word_4 11 rfl rfl)
theorem dX4_word_104 : decode cX4_word 104 = .ok (.sipush 150, 3) := dk_17 0 150 (dk_at dksX4_word_4 14 rfl rfl)
theorem dX4_word_107 : decode cX4_word 107 = .ok (.ireturn, 1) := dk_172 (dk_at dksX4_word_4 17 rfl rfl)
theorem dX4_word_108 : decode cX4_word 108 = .ok (.lload_n 0, 1) := dk_30 (dk_at dksX4_word_4 18 rfl rfl)
theorem dX4_word_109 : decode cX4_word 109 = .ok (.ldc2_w 320, 3) := dk_20 1 64 (dk_at dksX4_word_4 19 rfl rfl)
theorem dX4_word_112 : decode cX4_word 112 = .ok (.lcmp, 1) := dk_148 (dk_at dksX4_word_4 22 rfl rfl)
theorem dX4_word_113 : decode cX4_word 113 = .ok (.ifCond .ne 7, 3) := dk_154 0 7 (dk_at dksX4_word_5 0 rfl rfl)
theorem dX4_word_116 : decode cX4_word 116 = .ok (.sipush 151, 3) := dk_17 0 151 (dk_at dksX4_word_5 3 rfl rfl)
theorem dX4_word_119 : decode cX4_word 119 = .ok (.ireturn, 1) := dk_172 (dk_at dksX4_word_5 6 rfl rfl)
theorem dX4_word_120 : decode cX4_word 120 = .ok (.lload_n 0, 1) := dk_30 (dk_at dksX4_word_5 7 rfl rfl)
theorem dX4_word_121 : decode cX4_word 121 = .ok (.ldc2_w 322, 3) := dk_20 1 66 (dk_at dksX4_word_5 8 rfl rfl)
theorem dX4_word_124 : decode cX4_word 124 = .ok (.lcmp, 1) := dk_148 (dk_at dksX4_word_5 11 rfl rfl)
theorem dX4_word_125 : decode cX4_word 125 = .ok (.ifCond .ne 7, 3) := dk_154 0 7 (dk_at dksX4_word_5 12 rfl rfl)
theorem dX4_word_128 : decode cX4_word 128 = .ok (.sipush 152, 3) := dk_17 0 152 (dk_at dksX4_word_5 15 rfl rfl)
theorem dX4_word_131 : decode cX4_word 131 = .ok (.ireturn, 1) := dk_172 (dk_at dksX4_word_5 18 rfl rfl)
theorem dX4_word_132 : decode cX4_word 132 = .ok (.lload_n 0, 1) := dk_30 (dk_at dksX4_word_5 19 rfl rfl)
theorem dX4_word_133 : decode cX4_word 133 = .ok (.ldc2_w 324, 3) := dk_20 1 68 (dk_at dksX4_word_5 20 rfl rfl)
theorem dX4_word_136 : decode cX4_word 136 = .ok (.lcmp, 1) := dk_148 (dk_at dksX4_word_5 23 rfl rfl)
theorem dX4_word_137 : decode cX4_word 137 = .ok (.ifCond .ne 7, 3) := dk_154 0 7 (dk_at dksX4_word_6 0 rfl rfl)
theorem dX4_word_140 : decode cX4_word 140 = .ok (.sipush 153, 3) := dk_17 0 153 (dk_at dksX4_word_6 3 rfl rfl)
theorem dX4_word_143 : decode cX4_word 143 = .ok (.ireturn, 1) := dk_172 (dk_at dksX4_word_6 6 rfl rfl)
theorem dX4_word_144 : decode cX4_word 144 = .ok (.lload_n 0, 1) := dk_30 (dk_at dksX4_word_6 7 rfl rfl)
theorem dX4_word_145 : decode cX4_word 145 = .ok (.ldc2_w 326, 3) := dk_20 1 70 (dk_at dksX4_word_6 8 rfl rfl)
theorem dX4_word_148 : decode cX4_word 148 = .ok (.lcmp, 1) := dk_148 (dk_at dksX4_word_6 11 rfl rfl)
theorem dX4_word_149 : decode cX4_word 149 = .ok (.ifCond .ne 7, 3) := dk_154 0 7 (dk_at dksX4_word_6 12 rfl rfl)
theorem dX4_word_152 : decode cX4_word 152 = .ok (.sipush 201, 3) := dk_17 0 201 (dk_at dksX4_word_6 15 rfl rfl)
theorem dX4_word_155 : decode cX4_word 155 = .ok (.ireturn, 1) := dk_172 (dk_at dksX4_word_6 18 rfl rfl)
theorem dX4_word_156 : decode cX4_word 156 = .ok (.lload_n 0, 1) := dk_30 (dk_at dksX4_word_6 19 rfl rfl)
theorem dX4_word_157 : decode cX4_word 157 = .ok (.ldc2_w 328, 3) := dk_20 1 72 (dk_at dksX4_word_6 20 rfl rfl)
theorem dX4_word_160 : decode cX4_word 160 = .ok (.lcmp, 1) := dk_148 (dk_at dksX4_word_6 23 rfl rfl)
theorem dX4_word_161 : decode cX4_word 161 = .ok (.ifCond .ne 7, 3) := dk_154 0 7 (dk_at dksX4_word_7 0 rfl rfl)
theorem dX4_word_164 : decode cX4_word 164 = .ok (.sipush 202, 3) := dk_17 0 202 (dk_at dksX4_word_7 3 rfl rfl)
theorem dX4_word_167 : decode cX4_word 167 = .ok (.ireturn, 1) := dk_172 (dk_at dksX4_word_7 6 rfl rfl)
theorem dX4_word_168 : decode cX4_word 168 = .ok (.lload_n 0, 1) := dk_30 (dk_at dksX4_word_7 7 rfl rfl)
theorem dX4_word_169 : decode cX4_word 169 = .ok (.ldc2_w 330, 3) := dk_20 1 74 (dk_at dksX4_word_7 8 rfl rfl)
theorem dX4_word_172 : decode cX4_word 172 = .ok (.lcmp, 1) := dk_148 (dk_at dksX4_word_7 11 rfl rfl)
theorem dX4_word_173 : decode cX4_word 173 = .ok (.ifCond .ne 7, 3) := dk_154 0 7 (dk_at dksX4_word_7 12 rfl rfl)
theorem dX4_word_176 : decode cX4_word 176 = .ok (.sipush 203, 3) := dk_17 0 203 (dk_at dksX4_word_7 15 rfl rfl)
theorem dX4_word_179 : decode cX4_word 179 = .ok (.ireturn, 1) := dk_172 (dk_at dksX4_word_7 18 rfl rfl)
theorem dX4_word_180 : decode cX4_word 180 = .ok (.lload_n 0, 1) := dk_30 (dk_at dksX4_word_7 19 rfl rfl)
theorem dX4_word_181 : decode cX4_word 181 = .ok (.ldc2_w 332, 3) := dk_20 1 76 (dk_at dksX4_word_7 20 rfl rfl)
theorem dX4_word_184 : decode cX4_word 184 = .ok (.lcmp, 1) := dk_148 (dk_at dksX4_word_7 23 rfl rfl)
theorem dX4_word_185 : decode cX4_word 185 = .ok (.ifCond .ne 7, 3) := dk_154 0 7 (dk_at dksX4_word_8 0 rfl rfl)
theorem dX4_word_188 : decode cX4_word 188 = .ok (.sipush 204, 3) := dk_17 0 204 (dk_at dksX4_word_8 3 rfl rfl)
theorem dX4_word_191 : decode cX4_word 191 = .ok (.ireturn, 1) := dk_172 (dk_at dksX4_word_8 6 rfl rfl)
theorem dX4_word_192 : decode cX4_word 192 = .ok (.lload_n 0, 1) := dk_30 (dk_at dksX4_word_8 7 rfl rfl)
theorem dX4_word_193 : decode cX4_word 193 = .ok (.ldc2_w 334, 3) := dk_20 1 78 (dk_at dksX4_word_8 8 rfl rfl)
theorem dX4_word_196 : decode cX4_word 196 = .ok (.lcmp, 1) := dk_148 (dk_at dksX4_word_8 11 rfl rfl)
theorem dX4_word_197 : decode cX4_word 197 = .ok (.ifCond .ne 7, 3) := dk_154 0 7 (dk_at dksX4_word_8 12 rfl rfl)
theorem dX4_word_200 : decode cX4_word 200 = .ok (.sipush 205, 3) := dk_17 0 205 (dk_at dksX4_word_8 15 rfl rfl)
theorem dX4_word_203 : decode cX4_word 203 = .ok (.ireturn, 1) := dk_172 (dk_at dksX4_word_8 18 rfl rfl)
theorem dX4_word_204 : decode cX4_word 204 = .ok (.lload_n 0, 1) := dk_30 (dk_at dksX4_word_8 19 rfl rfl)
theorem dX4_word_205 : decode cX4_word 205 = .ok (.ldc2_w 336, 3) := dk_20 1 80 (dk_at dksX4_word_8 20 rfl rfl)
theorem dX4_word_208 : decode cX4_word 208 = .ok (.lcmp, 1) := dk_148 (dk_at dksX4_word_8 23 rfl rfl)
theorem dX4_word_209 : decode cX4_word 209 = .ok (.ifCond .ne 7, 3) := dk_154 0 7 (dk_at dksX4_word_9 0 rfl rfl)
theorem dX4_word_212 : decode cX4_word 212 = .ok (.sipush 206, 3) := dk_17 0 206 (dk_at dksX4_word_9 3 rfl rfl)
theorem dX4_word_215 : decode cX4_word 215 = .ok (.ireturn, 1) := dk_172 (dk_at dksX4_word_9 6 rfl rfl)
theorem dX4_word_216 : decode cX4_word 216 = .ok (.lload_n 0, 1) := dk_30 (dk_at dksX4_word_9 7 rfl rfl)
theorem dX4_word_217 : decode cX4_word 217 = .ok (.ldc2_w 338, 3) := dk_20 1 82 (dk_at dksX4_word_9 8 rfl rfl)
theorem dX4_word_220 : decode cX4_word 220 = .ok (.lcmp, 1) := dk_148 (dk_at dksX4_word_9 11 rfl rfl)
theorem dX4_word_221 : decode cX4_word 221 = .ok (.ifCond .ne 7, 3) := dk_154 0 7 (dk_at dksX4_word_9 12 rfl rfl)
theorem dX4_word_224 : decode cX4_word 224 = .ok (.sipush 207, 3) := dk_17 0 207 (dk_at dksX4_word_9 15 rfl rfl)
theorem dX4_word_227 : decode cX4_word 227 = .ok (.ireturn, 1) := dk_172 (dk_at dksX4_word_9 18 rfl rfl)
theorem dX4_word_228 : decode cX4_word 228 = .ok (.lload_n 0, 1) := dk_30 (dk_at dksX4_word_9 19 rfl rfl)
theorem dX4_word_229 : decode cX4_word 229 = .ok (.ldc2_w 340, 3) := dk_20 1 84 (dk_at dksX4_word_9 20 rfl rfl)
theorem dX4_word_232 : decode cX4_word 232 = .ok (.lcmp, 1) := dk_148 (dk_at dksX4_word_9 23 rfl rfl)
theorem dX4_word_233 : decode cX4_word 233 = .ok (.ifCond .ne 9, 3) := dk_154 0 9 (dk_at dksX4_word_10 0 rfl rfl)
theorem dX4_word_236 : decode cX4_word 236 = .ok (.sipush 208, 3) := dk_17 0 208 (dk_at dksX4_word_10 3 rfl rfl)
theorem dX4_word_239 : decode cX4_word 239 = .ok (.goto 4, 3) := dk_167 0 4 (dk_at dksX4_word_10 6 rfl rfl)
theorem dX4_word_242 : decode cX4_word 242 = .ok (.iconst 1, 1) := dk_4 (dk_at dksX4_word_10 9 rfl rfl)
theorem dX4_word_243 : decode cX4_word 243 = .ok (.ireturn, 1) := dk_172 (dk_at dksX4_word_10 10 rfl rfl)
abbrev cX4_isDigit : ByteArray := prog_23_method_25_code
def yX4_isDigit : MethodName := ⟨RX4, "isDigit", "(I)Z"⟩
def dkwX4_isDigit_0 : List UInt8 := [26, 16, 48, 16, 57, 184, 0, 244, 172]
abbrev dktX4_isDigit_0 : List UInt8 := dkwX4_isDigit_0 ++ []
theorem dksX4_isDigit_0 : cX4_isDigit.data.toList.drop 0 = dktX4_isDigit_0 := by decide +kernel
theorem dX4_isDigit_0 : decode cX4_isDigit 0 = .ok (.iload_n 0, 1) := dk_26 (dk_at dksX4_isDigit_0 0 rfl rfl)
theorem dX4_isDigit_1 : decode cX4_isDigit 1 = .ok (.bipush 48, 2) := dk_16 48 (dk_at dksX4_isDigit_0 1 rfl rfl)
theorem dX4_isDigit_3 : decode cX4_isDigit 3 = .ok (.bipush 57, 2) := dk_16 57 (dk_at dksX4_isDigit_0 3 rfl rfl)
theorem dX4_isDigit_5 : decode cX4_isDigit 5 = .ok (.invokestatic 244, 3) := dk_184 0 244 (dk_at dksX4_isDigit_0 5 rfl rfl)
theorem dX4_isDigit_8 : decode cX4_isDigit 8 = .ok (.ireturn, 1) := dk_172 (dk_at dksX4_isDigit_0 8 rfl rfl)
abbrev cX4_aLine : ByteArray := prog_23_method_40_code
def yX4_aLine : MethodName := ⟨RX4, "aLine", "()Z"⟩
def dkwX4_aLine_5 : List UInt8 := [172]
abbrev dktX4_aLine_5 : List UInt8 := dkwX4_aLine_5 ++ []
def dkwX4_aLine_4 : List UInt8 := [182, 1, 164, 154, 0, 5, 3, 172, 42, 89, 180, 1, 155, 4, 96, 181, 1, 155, 42, 16, 59, 182, 1, 146]
abbrev dktX4_aLine_4 : List UInt8 := dkwX4_aLine_4 ++ dktX4_aLine_5
def dkwX4_aLine_3 : List UInt8 := [180, 1, 123, 79, 42, 3, 181, 1, 126, 42, 182, 1, 120, 42, 42, 180, 0, 81, 42, 180, 1, 155, 46]
abbrev dktX4_aLine_3 : List UInt8 := dkwX4_aLine_3 ++ dktX4_aLine_4
def dkwX4_aLine_2 : List UInt8 := [42, 180, 0, 84, 42, 180, 1, 155, 42, 180, 1, 123, 79, 42, 180, 0, 87, 42, 180, 1, 155, 42]
abbrev dktX4_aLine_2 : List UInt8 := dkwX4_aLine_2 ++ dktX4_aLine_3
def dkwX4_aLine_1 : List UInt8 := [16, 20, 160, 0, 9, 42, 6, 182, 1, 117, 172, 42, 180, 0, 81, 42, 180, 1, 155, 42, 180, 1, 95, 79]
abbrev dktX4_aLine_1 : List UInt8 := dkwX4_aLine_1 ++ dktX4_aLine_2
def dkwX4_aLine_0 : List UInt8 := [42, 180, 1, 95, 6, 16, 7, 184, 0, 244, 154, 0, 9, 42, 4, 182, 1, 117, 172, 42, 180, 1, 155]
abbrev dktX4_aLine_0 : List UInt8 := dkwX4_aLine_0 ++ dktX4_aLine_1
theorem dksX4_aLine_0 : cX4_aLine.data.toList.drop 0 = dktX4_aLine_0 := by decide +kernel
theorem dksX4_aLine_1 : cX4_aLine.data.toList.drop 23 = dktX4_aLine_1 := dk_seg dksX4_aLine_0 23 rfl rfl
theorem dksX4_aLine_2 : cX4_aLine.data.toList.drop 47 = dktX4_aLine_2 := dk_seg dksX4_aLine_1 24 rfl rfl
theorem dksX4_aLine_3 : cX4_aLine.data.toList.drop 69 = dktX4_aLine_3 := dk_seg dksX4_aLine_2 22 rfl rfl
theorem dksX4_aLine_4 : cX4_aLine.data.toList.drop 92 = dktX4_aLine_4 := dk_seg dksX4_aLine_3 23 rfl rfl
theorem dksX4_aLine_5 : cX4_aLine.data.toList.drop 116 = dktX4_aLine_5 := dk_seg dksX4_aLine_4 24 rfl rfl
theorem dX4_aLine_0 : decode cX4_aLine 0 = .ok (.aload_n 0, 1) := dk_42 (dk_at dksX4_aLine_0 0 rfl rfl)
theorem dX4_aLine_1 : decode cX4_aLine 1 = .ok (.getfield 351, 3) := dk_180 1 95 (dk_at dksX4_aLine_0 1 rfl rfl)
theorem dX4_aLine_4 : decode cX4_aLine 4 = .ok (.iconst 3, 1) := dk_6 (dk_at dksX4_aLine_0 4 rfl rfl)
theorem dX4_aLine_5 : decode cX4_aLine 5 = .ok (.bipush 7, 2) := dk_16 7 (dk_at dksX4_aLine_0 5 rfl rfl)
theorem dX4_aLine_7 : decode cX4_aLine 7 = .ok (.invokestatic 244, 3) := dk_184 0 244 (dk_at dksX4_aLine_0 7 rfl rfl)
theorem dX4_aLine_10 : decode cX4_aLine 10 = .ok (.ifCond .ne 9, 3) := dk_154 0 9 (dk_at dksX4_aLine_0 10 rfl rfl)
theorem dX4_aLine_13 : decode cX4_aLine 13 = .ok (.aload_n 0, 1) := dk_42 (dk_at dksX4_aLine_0 13 rfl rfl)
theorem dX4_aLine_14 : decode cX4_aLine 14 = .ok (.iconst 1, 1) := dk_4 (dk_at dksX4_aLine_0 14 rfl rfl)
theorem dX4_aLine_15 : decode cX4_aLine 15 = .ok (.invokevirtual 373, 3) := dk_182 1 117 (dk_at dksX4_aLine_0 15 rfl rfl)
theorem dX4_aLine_18 : decode cX4_aLine 18 = .ok (.ireturn, 1) := dk_172 (dk_at dksX4_aLine_0 18 rfl rfl)
theorem dX4_aLine_19 : decode cX4_aLine 19 = .ok (.aload_n 0, 1) := dk_42 (dk_at dksX4_aLine_0 19 rfl rfl)
theorem dX4_aLine_20 : decode cX4_aLine 20 = .ok (.getfield 411, 3) := dk_180 1 155 (dk_at dksX4_aLine_0 20 rfl rfl)
theorem dX4_aLine_23 : decode cX4_aLine 23 = .ok (.bipush 20, 2) := dk_16 20 (dk_at dksX4_aLine_1 0 rfl rfl)
theorem dX4_aLine_25 : decode cX4_aLine 25 = .ok (.if_icmp .ne 9, 3) := dk_160 0 9 (dk_at dksX4_aLine_1 2 rfl rfl)
theorem dX4_aLine_28 : decode cX4_aLine 28 = .ok (.aload_n 0, 1) := dk_42 (dk_at dksX4_aLine_1 5 rfl rfl)
theorem dX4_aLine_29 : decode cX4_aLine 29 = .ok (.iconst 3, 1) := dk_6 (dk_at dksX4_aLine_1 6 rfl rfl)
theorem dX4_aLine_30 : decode cX4_aLine 30 = .ok (.invokevirtual 373, 3) := dk_182 1 117 (dk_at dksX4_aLine_1 7 rfl rfl)
theorem dX4_aLine_33 : decode cX4_aLine 33 = .ok (.ireturn, 1) := dk_172 (dk_at dksX4_aLine_1 10 rfl rfl)
theorem dX4_aLine_34 : decode cX4_aLine 34 = .ok (.aload_n 0, 1) := dk_42 (dk_at dksX4_aLine_1 11 rfl rfl)
theorem dX4_aLine_35 : decode cX4_aLine 35 = .ok (.getfield 81, 3) := dk_180 0 81 (dk_at dksX4_aLine_1 12 rfl rfl)
theorem dX4_aLine_38 : decode cX4_aLine 38 = .ok (.aload_n 0, 1) := dk_42 (dk_at dksX4_aLine_1 15 rfl rfl)
theorem dX4_aLine_39 : decode cX4_aLine 39 = .ok (.getfield 411, 3) := dk_180 1 155 (dk_at dksX4_aLine_1 16 rfl rfl)
theorem dX4_aLine_42 : decode cX4_aLine 42 = .ok (.aload_n 0, 1) := dk_42 (dk_at dksX4_aLine_1 19 rfl rfl)
theorem dX4_aLine_43 : decode cX4_aLine 43 = .ok (.getfield 351, 3) := dk_180 1 95 (dk_at dksX4_aLine_1 20 rfl rfl)
theorem dX4_aLine_46 : decode cX4_aLine 46 = .ok (.iastore, 1) := dk_79 (dk_at dksX4_aLine_1 23 rfl rfl)
theorem dX4_aLine_47 : decode cX4_aLine 47 = .ok (.aload_n 0, 1) := dk_42 (dk_at dksX4_aLine_2 0 rfl rfl)
theorem dX4_aLine_48 : decode cX4_aLine 48 = .ok (.getfield 84, 3) := dk_180 0 84 (dk_at dksX4_aLine_2 1 rfl rfl)
theorem dX4_aLine_51 : decode cX4_aLine 51 = .ok (.aload_n 0, 1) := dk_42 (dk_at dksX4_aLine_2 4 rfl rfl)
theorem dX4_aLine_52 : decode cX4_aLine 52 = .ok (.getfield 411, 3) := dk_180 1 155 (dk_at dksX4_aLine_2 5 rfl rfl)
theorem dX4_aLine_55 : decode cX4_aLine 55 = .ok (.aload_n 0, 1) := dk_42 (dk_at dksX4_aLine_2 8 rfl rfl)
theorem dX4_aLine_56 : decode cX4_aLine 56 = .ok (.getfield 379, 3) := dk_180 1 123 (dk_at dksX4_aLine_2 9 rfl rfl)
theorem dX4_aLine_59 : decode cX4_aLine 59 = .ok (.iastore, 1) := dk_79 (dk_at dksX4_aLine_2 12 rfl rfl)
theorem dX4_aLine_60 : decode cX4_aLine 60 = .ok (.aload_n 0, 1) := dk_42 (dk_at dksX4_aLine_2 13 rfl rfl)
theorem dX4_aLine_61 : decode cX4_aLine 61 = .ok (.getfield 87, 3) := dk_180 0 87 (dk_at dksX4_aLine_2 14 rfl rfl)
theorem dX4_aLine_64 : decode cX4_aLine 64 = .ok (.aload_n 0, 1) := dk_42 (dk_at dksX4_aLine_2 17 rfl rfl)
theorem dX4_aLine_65 : decode cX4_aLine 65 = .ok (.getfield 411, 3) := dk_180 1 155 (dk_at dksX4_aLine_2 18 rfl rfl)
theorem dX4_aLine_68 : decode cX4_aLine 68 = .ok (.aload_n 0, 1) := dk_42 (dk_at dksX4_aLine_2 21 rfl rfl)
theorem dX4_aLine_69 : decode cX4_aLine 69 = .ok (.getfield 379, 3) := dk_180 1 123 (dk_at dksX4_aLine_3 0 rfl rfl)
theorem dX4_aLine_72 : decode cX4_aLine 72 = .ok (.iastore, 1) := dk_79 (dk_at dksX4_aLine_3 3 rfl rfl)
theorem dX4_aLine_73 : decode cX4_aLine 73 = .ok (.aload_n 0, 1) := dk_42 (dk_at dksX4_aLine_3 4 rfl rfl)
theorem dX4_aLine_74 : decode cX4_aLine 74 = .ok (.iconst 0, 1) := dk_3 (dk_at dksX4_aLine_3 5 rfl rfl)
theorem dX4_aLine_75 : decode cX4_aLine 75 = .ok (.putfield 382, 3) := dk_181 1 126 (dk_at dksX4_aLine_3 6 rfl rfl)
theorem dX4_aLine_78 : decode cX4_aLine 78 = .ok (.aload_n 0, 1) := dk_42 (dk_at dksX4_aLine_3 9 rfl rfl)
theorem dX4_aLine_79 : decode cX4_aLine 79 = .ok (.invokevirtual 376, 3) := dk_182 1 120 (dk_at dksX4_aLine_3 10 rfl rfl)
theorem dX4_aLine_82 : decode cX4_aLine 82 = .ok (.aload_n 0, 1) := dk_42 (dk_at dksX4_aLine_3 13 rfl rfl)
theorem dX4_aLine_83 : decode cX4_aLine 83 = .ok (.aload_n 0, 1) := dk_42 (dk_at dksX4_aLine_3 14 rfl rfl)
theorem dX4_aLine_84 : decode cX4_aLine 84 = .ok (.getfield 81, 3) := dk_180 0 81 (dk_at dksX4_aLine_3 15 rfl rfl)
theorem dX4_aLine_87 : decode cX4_aLine 87 = .ok (.aload_n 0, 1) := dk_42 (dk_at dksX4_aLine_3 18 rfl rfl)
theorem dX4_aLine_88 : decode cX4_aLine 88 = .ok (.getfield 411, 3) := dk_180 1 155 (dk_at dksX4_aLine_3 19 rfl rfl)
theorem dX4_aLine_91 : decode cX4_aLine 91 = .ok (.iaload, 1) := dk_46 (dk_at dksX4_aLine_3 22 rfl rfl)
theorem dX4_aLine_92 : decode cX4_aLine 92 = .ok (.invokevirtual 420, 3) := dk_182 1 164 (dk_at dksX4_aLine_4 0 rfl rfl)
theorem dX4_aLine_95 : decode cX4_aLine 95 = .ok (.ifCond .ne 5, 3) := dk_154 0 5 (dk_at dksX4_aLine_4 3 rfl rfl)
theorem dX4_aLine_98 : decode cX4_aLine 98 = .ok (.iconst 0, 1) := dk_3 (dk_at dksX4_aLine_4 6 rfl rfl)
theorem dX4_aLine_99 : decode cX4_aLine 99 = .ok (.ireturn, 1) := dk_172 (dk_at dksX4_aLine_4 7 rfl rfl)
theorem dX4_aLine_100 : decode cX4_aLine 100 = .ok (.aload_n 0, 1) := dk_42 (dk_at dksX4_aLine_4 8 rfl rfl)
theorem dX4_aLine_101 : decode cX4_aLine 101 = .ok (.dup, 1) := dk_89 (dk_at dksX4_aLine_4 9 rfl rfl)
theorem dX4_aLine_102 : decode cX4_aLine 102 = .ok (.getfield 411, 3) := dk_180 1 155 (dk_at dksX4_aLine_4 10 rfl rfl)
theorem dX4_aLine_105 : decode cX4_aLine 105 = .ok (.iconst 1, 1) := dk_4 (dk_at dksX4_aLine_4 13 rfl rfl)
theorem dX4_aLine_106 : decode cX4_aLine 106 = .ok (.iadd, 1) := dk_96 (dk_at dksX4_aLine_4 14 rfl rfl)
theorem dX4_aLine_107 : decode cX4_aLine 107 = .ok (.putfield 411, 3) := dk_181 1 155 (dk_at dksX4_aLine_4 15 rfl rfl)
theorem dX4_aLine_110 : decode cX4_aLine 110 = .ok (.aload_n 0, 1) := dk_42 (dk_at dksX4_aLine_4 18 rfl rfl)
theorem dX4_aLine_111 : decode cX4_aLine 111 = .ok (.bipush 59, 2) := dk_16 59 (dk_at dksX4_aLine_4 19 rfl rfl)
theorem dX4_aLine_113 : decode cX4_aLine 113 = .ok (.invokevirtual 402, 3) := dk_182 1 146 (dk_at dksX4_aLine_4 21 rfl rfl)
theorem dX4_aLine_116 : decode cX4_aLine 116 = .ok (.ireturn, 1) := dk_172 (dk_at dksX4_aLine_5 0 rfl rfl)
abbrev cX4_bad : ByteArray := prog_23_method_28_code
def yX4_bad : MethodName := ⟨RX4, "bad", "(I)Z"⟩
def dkwX4_bad_0 : List UInt8 := [42, 27, 181, 1, 111, 42, 42, 180, 1, 92, 181, 1, 114, 3, 172]
abbrev dktX4_bad_0 : List UInt8 := dkwX4_bad_0 ++ []
theorem dksX4_bad_0 : cX4_bad.data.toList.drop 0 = dktX4_bad_0 := by decide +kernel
theorem dX4_bad_0 : decode cX4_bad 0 = .ok (.aload_n 0, 1) := dk_42 (dk_at dksX4_bad_0 0 rfl rfl)
theorem dX4_bad_1 : decode cX4_bad 1 = .ok (.iload_n 1, 1) := dk_27 (dk_at dksX4_bad_0 1 rfl rfl)
theorem dX4_bad_2 : decode cX4_bad 2 = .ok (.putfield 367, 3) := dk_181 1 111 (dk_at dksX4_bad_0 2 rfl rfl)
theorem dX4_bad_5 : decode cX4_bad 5 = .ok (.aload_n 0, 1) := dk_42 (dk_at dksX4_bad_0 5 rfl rfl)
theorem dX4_bad_6 : decode cX4_bad 6 = .ok (.aload_n 0, 1) := dk_42 (dk_at dksX4_bad_0 6 rfl rfl)
theorem dX4_bad_7 : decode cX4_bad 7 = .ok (.getfield 348, 3) := dk_180 1 92 (dk_at dksX4_bad_0 7 rfl rfl)
theorem dX4_bad_10 : decode cX4_bad 10 = .ok (.putfield 370, 3) := dk_181 1 114 (dk_at dksX4_bad_0 10 rfl rfl)
theorem dX4_bad_13 : decode cX4_bad 13 = .ok (.iconst 0, 1) := dk_3 (dk_at dksX4_bad_0 13 rfl rfl)
theorem dX4_bad_14 : decode cX4_bad 14 = .ok (.ireturn, 1) := dk_172 (dk_at dksX4_bad_0 14 rfl rfl)
abbrev cX4_inner : ByteArray := prog_23_method_39_code
def yX4_inner : MethodName := ⟨RX4, "inner", "(I)Z"⟩
def dkwX4_inner_7 : List UInt8 := [27, 16, 6, 160, 0, 8, 16, 9, 167, 0, 5, 16, 20, 182, 1, 161, 172]
abbrev dktX4_inner_7 : List UInt8 := dkwX4_inner_7 ++ []
def dkwX4_inner_6 : List UInt8 := [180, 1, 155, 42, 180, 1, 95, 17, 0, 150, 100, 79, 42, 182, 1, 120, 42, 16, 99, 182, 1, 161, 172, 42]
abbrev dktX4_inner_6 : List UInt8 := dkwX4_inner_6 ++ dktX4_inner_7
def dkwX4_inner_5 : List UInt8 := [17, 0, 150, 17, 0, 153, 184, 0, 244, 154, 0, 9, 42, 4, 182, 1, 117, 172, 42, 180, 0, 90, 42]
abbrev dktX4_inner_5 : List UInt8 := dkwX4_inner_5 ++ dktX4_inner_6
def dkwX4_inner_4 : List UInt8 := [182, 1, 146, 153, 0, 14, 42, 182, 1, 158, 153, 0, 7, 4, 167, 0, 4, 3, 172, 42, 180, 1, 95]
abbrev dktX4_inner_4 : List UInt8 := dkwX4_inner_4 ++ dktX4_inner_5
def dkwX4_inner_3 : List UInt8 := [180, 1, 95, 16, 8, 159, 0, 5, 4, 172, 42, 182, 1, 120, 42, 182, 1, 158, 172, 42, 16, 8]
abbrev dktX4_inner_3 : List UInt8 := dkwX4_inner_3 ++ dktX4_inner_4
def dkwX4_inner_2 : List UInt8 := [42, 182, 1, 143, 154, 0, 5, 3, 172, 42, 180, 0, 87, 42, 180, 1, 155, 42, 180, 1, 123, 79, 42]
abbrev dktX4_inner_2 : List UInt8 := dkwX4_inner_2 ++ dktX4_inner_3
def dkwX4_inner_1 : List UInt8 := [170, 0, 0, 0, 0, 0, 141, 0, 0, 0, 3, 0, 0, 0, 5, 0, 0, 0, 27, 0, 0, 0, 69, 0, 0, 0, 91]
abbrev dktX4_inner_1 : List UInt8 := dkwX4_inner_1 ++ dktX4_inner_2
def dkwX4_inner_0 : List UInt8 := [27]
abbrev dktX4_inner_0 : List UInt8 := dkwX4_inner_0 ++ dktX4_inner_1
theorem dksX4_inner_0 : cX4_inner.data.toList.drop 0 = dktX4_inner_0 := by decide +kernel
theorem dksX4_inner_1 : cX4_inner.data.toList.drop 1 = dktX4_inner_1 := dk_seg dksX4_inner_0 1 rfl rfl
theorem dksX4_inner_2 : cX4_inner.data.toList.drop 28 = dktX4_inner_2 := dk_seg dksX4_inner_1 27 rfl rfl
theorem dksX4_inner_3 : cX4_inner.data.toList.drop 51 = dktX4_inner_3 := dk_seg dksX4_inner_2 23 rfl rfl
theorem dksX4_inner_4 : cX4_inner.data.toList.drop 73 = dktX4_inner_4 := dk_seg dksX4_inner_3 22 rfl rfl
theorem dksX4_inner_5 : cX4_inner.data.toList.drop 96 = dktX4_inner_5 := dk_seg dksX4_inner_4 23 rfl rfl
theorem dksX4_inner_6 : cX4_inner.data.toList.drop 119 = dktX4_inner_6 := dk_seg dksX4_inner_5 23 rfl rfl
theorem dksX4_inner_7 : cX4_inner.data.toList.drop 143 = dktX4_inner_7 := dk_seg dksX4_inner_6 24 rfl rfl
theorem dX4_inner_0 : decode cX4_inner 0 = .ok (.iload_n 1, 1) := dk_27 (dk_at dksX4_inner_0 0 rfl rfl)
theorem dX4_inner_1 : decode cX4_inner 1 = .ok (.tableswitch 141 3 5 #[27, 69, 91], 27) := by decide +kernel
theorem dX4_inner_28 : decode cX4_inner 28 = .ok (.aload_n 0, 1) := dk_42 (dk_at dksX4_inner_2 0 rfl rfl)
theorem dX4_inner_29 : decode cX4_inner 29 = .ok (.invokevirtual 399, 3) := dk_182 1 143 (dk_at dksX4_inner_2 1 rfl rfl)
theorem dX4_inner_32 : decode cX4_inner 32 = .ok (.ifCond .ne 5, 3) := dk_154 0 5 (dk_at dksX4_inner_2 4 rfl rfl)
theorem dX4_inner_35 : decode cX4_inner 35 = .ok (.iconst 0, 1) := dk_3 (dk_at dksX4_inner_2 7 rfl rfl)
theorem dX4_inner_36 : decode cX4_inner 36 = .ok (.ireturn, 1) := dk_172 (dk_at dksX4_inner_2 8 rfl rfl)
theorem dX4_inner_37 : decode cX4_inner 37 = .ok (.aload_n 0, 1) := dk_42 (dk_at dksX4_inner_2 9 rfl rfl)
theorem dX4_inner_38 : decode cX4_inner 38 = .ok (.getfield 87, 3) := dk_180 0 87 (dk_at dksX4_inner_2 10 rfl rfl)
theorem dX4_inner_41 : decode cX4_inner 41 = .ok (.aload_n 0, 1) := dk_42 (dk_at dksX4_inner_2 13 rfl rfl)
theorem dX4_inner_42 : decode cX4_inner 42 = .ok (.getfield 411, 3) := dk_180 1 155 (dk_at dksX4_inner_2 14 rfl rfl)
theorem dX4_inner_45 : decode cX4_inner 45 = .ok (.aload_n 0, 1) := dk_42 (dk_at dksX4_inner_2 17 rfl rfl)
theorem dX4_inner_46 : decode cX4_inner 46 = .ok (.getfield 379, 3) := dk_180 1 123 (dk_at dksX4_inner_2 18 rfl rfl)
theorem dX4_inner_49 : decode cX4_inner 49 = .ok (.iastore, 1) := dk_79 (dk_at dksX4_inner_2 21 rfl rfl)
theorem dX4_inner_50 : decode cX4_inner 50 = .ok (.aload_n 0, 1) := dk_42 (dk_at dksX4_inner_2 22 rfl rfl)
theorem dX4_inner_51 : decode cX4_inner 51 = .ok (.getfield 351, 3) := dk_180 1 95 (dk_at dksX4_inner_3 0 rfl rfl)
theorem dX4_inner_54 : decode cX4_inner 54 = .ok (.bipush 8, 2) := dk_16 8 (dk_at dksX4_inner_3 3 rfl rfl)
theorem dX4_inner_56 : decode cX4_inner 56 = .ok (.if_icmp .eq 5, 3) := dk_159 0 5 (dk_at dksX4_inner_3 5 rfl rfl)
theorem dX4_inner_59 : decode cX4_inner 59 = .ok (.iconst 1, 1) := dk_4 (dk_at dksX4_inner_3 8 rfl rfl)
theorem dX4_inner_60 : decode cX4_inner 60 = .ok (.ireturn, 1) := dk_172 (dk_at dksX4_inner_3 9 rfl rfl)
theorem dX4_inner_61 : decode cX4_inner 61 = .ok (.aload_n 0, 1) := dk_42 (dk_at dksX4_inner_3 10 rfl rfl)
theorem dX4_inner_62 : decode cX4_inner 62 = .ok (.invokevirtual 376, 3) := dk_182 1 120 (dk_at dksX4_inner_3 11 rfl rfl)
theorem dX4_inner_65 : decode cX4_inner 65 = .ok (.aload_n 0, 1) := dk_42 (dk_at dksX4_inner_3 14 rfl rfl)
theorem dX4_inner_66 : decode cX4_inner 66 = .ok (.invokevirtual 414, 3) := dk_182 1 158 (dk_at dksX4_inner_3 15 rfl rfl)
theorem dX4_inner_69 : decode cX4_inner 69 = .ok (.ireturn, 1) := dk_172 (dk_at dksX4_inner_3 18 rfl rfl)
theorem dX4_inner_70 : decode cX4_inner 70 = .ok (.aload_n 0, 1) := dk_42 (dk_at dksX4_inner_3 19 rfl rfl)
theorem dX4_inner_71 : decode cX4_inner 71 = .ok (.bipush 8, 2) := dk_16 8 (dk_at dksX4_inner_3 20 rfl rfl)
theorem dX4_inner_73 : decode cX4_inner 73 = .ok (.invokevirtual 402, 3) := dk_182 1 146 (dk_at dksX4_inner_4 0 rfl rfl)
theorem dX4_inner_76 : decode cX4_inner 76 = .ok (.ifCond .eq 14, 3) := dk_153 0 14 (dk_at dksX4_inner_4 3 rfl rfl)
theorem dX4_inner_79 : decode cX4_inner 79 = .ok (.aload_n 0, 1) := dk_42 (dk_at dksX4_inner_4 6 rfl rfl)
theorem dX4_inner_80 : decode cX4_inner 80 = .ok (.invokevirtual 414, 3) := dk_182 1 158 (dk_at dksX4_inner_4 7 rfl rfl)
theorem dX4_inner_83 : decode cX4_inner 83 = .ok (.ifCond .eq 7, 3) := dk_153 0 7 (dk_at dksX4_inner_4 10 rfl rfl)
theorem dX4_inner_86 : decode cX4_inner 86 = .ok (.iconst 1, 1) := dk_4 (dk_at dksX4_inner_4 13 rfl rfl)
theorem dX4_inner_87 : decode cX4_inner 87 = .ok (.goto 4, 3) := dk_167 0 4 (dk_at dksX4_inner_4 14 rfl rfl)
theorem dX4_inner_90 : decode cX4_inner 90 = .ok (.iconst 0, 1) := dk_3 (dk_at dksX4_inner_4 17 rfl rfl)
theorem dX4_inner_91 : decode cX4_inner 91 = .ok (.ireturn, 1) := dk_172 (dk_at dksX4_inner_4 18 rfl rfl)
theorem dX4_inner_92 : decode cX4_inner 92 = .ok (.aload_n 0, 1) := dk_42 (dk_at dksX4_inner_4 19 rfl rfl)
theorem dX4_inner_93 : decode cX4_inner 93 = .ok (.getfield 351, 3) := dk_180 1 95 (dk_at dksX4_inner_4 20 rfl rfl)
theorem dX4_inner_96 : decode cX4_inner 96 = .ok (.sipush 150, 3) := dk_17 0 150 (dk_at dksX4_inner_5 0 rfl rfl)
theorem dX4_inner_99 : decode cX4_inner 99 = .ok (.sipush 153, 3) := dk_17 0 153 (dk_at dksX4_inner_5 3 rfl rfl)
theorem dX4_inner_102 : decode cX4_inner 102 = .ok (.invokestatic 244, 3) := dk_184 0 244 (dk_at dksX4_inner_5 6 rfl rfl)
theorem dX4_inner_105 : decode cX4_inner 105 = .ok (.ifCond .ne 9, 3) := dk_154 0 9 (dk_at dksX4_inner_5 9 rfl rfl)
theorem dX4_inner_108 : decode cX4_inner 108 = .ok (.aload_n 0, 1) := dk_42 (dk_at dksX4_inner_5 12 rfl rfl)
theorem dX4_inner_109 : decode cX4_inner 109 = .ok (.iconst 1, 1) := dk_4 (dk_at dksX4_inner_5 13 rfl rfl)
theorem dX4_inner_110 : decode cX4_inner 110 = .ok (.invokevirtual 373, 3) := dk_182 1 117 (dk_at dksX4_inner_5 14 rfl rfl)
theorem dX4_inner_113 : decode cX4_inner 113 = .ok (.ireturn, 1) := dk_172 (dk_at dksX4_inner_5 17 rfl rfl)
theorem dX4_inner_114 : decode cX4_inner 114 = .ok (.aload_n 0, 1) := dk_42 (dk_at dksX4_inner_5 18 rfl rfl)
theorem dX4_inner_115 : decode cX4_inner 115 = .ok (.getfield 90, 3) := dk_180 0 90 (dk_at dksX4_inner_5 19 rfl rfl)
theorem dX4_inner_118 : decode cX4_inner 118 = .ok (.aload_n 0, 1) := dk_42 (dk_at dksX4_inner_5 22 rfl rfl)
theorem dX4_inner_119 : decode cX4_inner 119 = .ok (.getfield 411, 3) := dk_180 1 155 (dk_at dksX4_inner_6 0 rfl rfl)
theorem dX4_inner_122 : decode cX4_inner 122 = .ok (.aload_n 0, 1) := dk_42 (dk_at dksX4_inner_6 3 rfl rfl)
theorem dX4_inner_123 : decode cX4_inner 123 = .ok (.getfield 351, 3) := dk_180 1 95 (dk_at dksX4_inner_6 4 rfl rfl)
theorem dX4_inner_126 : decode cX4_inner 126 = .ok (.sipush 150, 3) := dk_17 0 150 (dk_at dksX4_inner_6 7 rfl rfl)
theorem dX4_inner_129 : decode cX4_inner 129 = .ok (.isub, 1) := dk_100 (dk_at dksX4_inner_6 10 rfl rfl)
theorem dX4_inner_130 : decode cX4_inner 130 = .ok (.iastore, 1) := dk_79 (dk_at dksX4_inner_6 11 rfl rfl)
theorem dX4_inner_131 : decode cX4_inner 131 = .ok (.aload_n 0, 1) := dk_42 (dk_at dksX4_inner_6 12 rfl rfl)
theorem dX4_inner_132 : decode cX4_inner 132 = .ok (.invokevirtual 376, 3) := dk_182 1 120 (dk_at dksX4_inner_6 13 rfl rfl)
theorem dX4_inner_135 : decode cX4_inner 135 = .ok (.aload_n 0, 1) := dk_42 (dk_at dksX4_inner_6 16 rfl rfl)
theorem dX4_inner_136 : decode cX4_inner 136 = .ok (.bipush 99, 2) := dk_16 99 (dk_at dksX4_inner_6 17 rfl rfl)
theorem dX4_inner_138 : decode cX4_inner 138 = .ok (.invokevirtual 417, 3) := dk_182 1 161 (dk_at dksX4_inner_6 19 rfl rfl)
theorem dX4_inner_141 : decode cX4_inner 141 = .ok (.ireturn, 1) := dk_172 (dk_at dksX4_inner_6 22 rfl rfl)
theorem dX4_inner_142 : decode cX4_inner 142 = .ok (.aload_n 0, 1) := dk_42 (dk_at dksX4_inner_6 23 rfl rfl)
theorem dX4_inner_143 : decode cX4_inner 143 = .ok (.iload_n 1, 1) := dk_27 (dk_at dksX4_inner_7 0 rfl rfl)
theorem dX4_inner_144 : decode cX4_inner 144 = .ok (.bipush 6, 2) := dk_16 6 (dk_at dksX4_inner_7 1 rfl rfl)
theorem dX4_inner_146 : decode cX4_inner 146 = .ok (.if_icmp .ne 8, 3) := dk_160 0 8 (dk_at dksX4_inner_7 3 rfl rfl)
theorem dX4_inner_149 : decode cX4_inner 149 = .ok (.bipush 9, 2) := dk_16 9 (dk_at dksX4_inner_7 6 rfl rfl)
theorem dX4_inner_151 : decode cX4_inner 151 = .ok (.goto 5, 3) := dk_167 0 5 (dk_at dksX4_inner_7 8 rfl rfl)
theorem dX4_inner_154 : decode cX4_inner 154 = .ok (.bipush 20, 2) := dk_16 20 (dk_at dksX4_inner_7 11 rfl rfl)
theorem dX4_inner_156 : decode cX4_inner 156 = .ok (.invokevirtual 417, 3) := dk_182 1 161 (dk_at dksX4_inner_7 13 rfl rfl)
theorem dX4_inner_159 : decode cX4_inner 159 = .ok (.ireturn, 1) := dk_172 (dk_at dksX4_inner_7 16 rfl rfl)
abbrev cX4_sumOf : ByteArray := prog_23_method_32_code
def yX4_sumOf : MethodName := ⟨RX4, "sumOf", "()Z"⟩
def dkwX4_sumOf_2 : List UInt8 := [42, 182, 1, 129, 154, 0, 5, 3, 172, 42, 27, 3, 182, 1, 133, 167, 255, 202, 4, 172]
abbrev dktX4_sumOf_2 : List UInt8 := dkwX4_sumOf_2 ++ []
def dkwX4_sumOf_1 : List UInt8 := [160, 0, 42, 42, 180, 1, 95, 16, 43, 160, 0, 8, 16, 9, 167, 0, 5, 16, 10, 60, 42, 182, 1, 120]
abbrev dktX4_sumOf_1 : List UInt8 := dkwX4_sumOf_1 ++ dktX4_sumOf_2
def dkwX4_sumOf_0 : List UInt8 := [42, 182, 1, 129, 154, 0, 5, 3, 172, 42, 180, 1, 95, 16, 43, 159, 0, 12, 42, 180, 1, 95, 16, 45]
abbrev dktX4_sumOf_0 : List UInt8 := dkwX4_sumOf_0 ++ dktX4_sumOf_1
theorem dksX4_sumOf_0 : cX4_sumOf.data.toList.drop 0 = dktX4_sumOf_0 := by decide +kernel
theorem dksX4_sumOf_1 : cX4_sumOf.data.toList.drop 24 = dktX4_sumOf_1 := dk_seg dksX4_sumOf_0 24 rfl rfl
theorem dksX4_sumOf_2 : cX4_sumOf.data.toList.drop 48 = dktX4_sumOf_2 := dk_seg dksX4_sumOf_1 24 rfl rfl
theorem dX4_sumOf_0 : decode cX4_sumOf 0 = .ok (.aload_n 0, 1) := dk_42 (dk_at dksX4_sumOf_0 0 rfl rfl)
theorem dX4_sumOf_1 : decode cX4_sumOf 1 = .ok (.invokevirtual 385, 3) := dk_182 1 129 (dk_at dksX4_sumOf_0 1 rfl rfl)
theorem dX4_sumOf_4 : decode cX4_sumOf 4 = .ok (.ifCond .ne 5, 3) := dk_154 0 5 (dk_at dksX4_sumOf_0 4 rfl rfl)
theorem dX4_sumOf_7 : decode cX4_sumOf 7 = .ok (.iconst 0, 1) := dk_3 (dk_at dksX4_sumOf_0 7 rfl rfl)
theorem dX4_sumOf_8 : decode cX4_sumOf 8 = .ok (.ireturn, 1) := dk_172 (dk_at dksX4_sumOf_0 8 rfl rfl)
theorem dX4_sumOf_9 : decode cX4_sumOf 9 = .ok (.aload_n 0, 1) := dk_42 (dk_at dksX4_sumOf_0 9 rfl rfl)
theorem dX4_sumOf_10 : decode cX4_sumOf 10 = .ok (.getfield 351, 3) := dk_180 1 95 (dk_at dksX4_sumOf_0 10 rfl rfl)
theorem dX4_sumOf_13 : decode cX4_sumOf 13 = .ok (.bipush 43, 2) := dk_16 43 (dk_at dksX4_sumOf_0 13 rfl rfl)
theorem dX4_sumOf_15 : decode cX4_sumOf 15 = .ok (.if_icmp .eq 12, 3) := dk_159 0 12 (dk_at dksX4_sumOf_0 15 rfl rfl)
theorem dX4_sumOf_18 : decode cX4_sumOf 18 = .ok (.aload_n 0, 1) := dk_42 (dk_at dksX4_sumOf_0 18 rfl rfl)
theorem dX4_sumOf_19 : decode cX4_sumOf 19 = .ok (.getfield 351, 3) := dk_180 1 95 (dk_at dksX4_sumOf_0 19 rfl rfl)
theorem dX4_sumOf_22 : decode cX4_sumOf 22 = .ok (.bipush 45, 2) := dk_16 45 (dk_at dksX4_sumOf_0 22 rfl rfl)
theorem dX4_sumOf_24 : decode cX4_sumOf 24 = .ok (.if_icmp .ne 42, 3) := dk_160 0 42 (dk_at dksX4_sumOf_1 0 rfl rfl)
theorem dX4_sumOf_27 : decode cX4_sumOf 27 = .ok (.aload_n 0, 1) := dk_42 (dk_at dksX4_sumOf_1 3 rfl rfl)
theorem dX4_sumOf_28 : decode cX4_sumOf 28 = .ok (.getfield 351, 3) := dk_180 1 95 (dk_at dksX4_sumOf_1 4 rfl rfl)
theorem dX4_sumOf_31 : decode cX4_sumOf 31 = .ok (.bipush 43, 2) := dk_16 43 (dk_at dksX4_sumOf_1 7 rfl rfl)
theorem dX4_sumOf_33 : decode cX4_sumOf 33 = .ok (.if_icmp .ne 8, 3) := dk_160 0 8 (dk_at dksX4_sumOf_1 9 rfl rfl)
theorem dX4_sumOf_36 : decode cX4_sumOf 36 = .ok (.bipush 9, 2) := dk_16 9 (dk_at dksX4_sumOf_1 12 rfl rfl)
theorem dX4_sumOf_38 : decode cX4_sumOf 38 = .ok (.goto 5, 3) := dk_167 0 5 (dk_at dksX4_sumOf_1 14 rfl rfl)
theorem dX4_sumOf_41 : decode cX4_sumOf 41 = .ok (.bipush 10, 2) := dk_16 10 (dk_at dksX4_sumOf_1 17 rfl rfl)
theorem dX4_sumOf_43 : decode cX4_sumOf 43 = .ok (.istore_n 1, 1) := dk_60 (dk_at dksX4_sumOf_1 19 rfl rfl)
theorem dX4_sumOf_44 : decode cX4_sumOf 44 = .ok (.aload_n 0, 1) := dk_42 (dk_at dksX4_sumOf_1 20 rfl rfl)
theorem dX4_sumOf_45 : decode cX4_sumOf 45 = .ok (.invokevirtual 376, 3) := dk_182 1 120 (dk_at dksX4_sumOf_1 21 rfl rfl)
theorem dX4_sumOf_48 : decode cX4_sumOf 48 = .ok (.aload_n 0, 1) := dk_42 (dk_at dksX4_sumOf_2 0 rfl rfl)
theorem dX4_sumOf_49 : decode cX4_sumOf 49 = .ok (.invokevirtual 385, 3) := dk_182 1 129 (dk_at dksX4_sumOf_2 1 rfl rfl)
theorem dX4_sumOf_52 : decode cX4_sumOf 52 = .ok (.ifCond .ne 5, 3) := dk_154 0 5 (dk_at dksX4_sumOf_2 4 rfl rfl)
theorem dX4_sumOf_55 : decode cX4_sumOf 55 = .ok (.iconst 0, 1) := dk_3 (dk_at dksX4_sumOf_2 7 rfl rfl)
theorem dX4_sumOf_56 : decode cX4_sumOf 56 = .ok (.ireturn, 1) := dk_172 (dk_at dksX4_sumOf_2 8 rfl rfl)
theorem dX4_sumOf_57 : decode cX4_sumOf 57 = .ok (.aload_n 0, 1) := dk_42 (dk_at dksX4_sumOf_2 9 rfl rfl)
theorem dX4_sumOf_58 : decode cX4_sumOf 58 = .ok (.iload_n 1, 1) := dk_27 (dk_at dksX4_sumOf_2 10 rfl rfl)
theorem dX4_sumOf_59 : decode cX4_sumOf 59 = .ok (.iconst 0, 1) := dk_3 (dk_at dksX4_sumOf_2 11 rfl rfl)
theorem dX4_sumOf_60 : decode cX4_sumOf 60 = .ok (.invokevirtual 389, 3) := dk_182 1 133 (dk_at dksX4_sumOf_2 12 rfl rfl)
theorem dX4_sumOf_63 : decode cX4_sumOf 63 = .ok (.goto (-54), 3) := dk_167 255 202 (dk_at dksX4_sumOf_2 15 rfl rfl)
theorem dX4_sumOf_66 : decode cX4_sumOf 66 = .ok (.iconst 1, 1) := dk_4 (dk_at dksX4_sumOf_2 18 rfl rfl)
theorem dX4_sumOf_67 : decode cX4_sumOf 67 = .ok (.ireturn, 1) := dk_172 (dk_at dksX4_sumOf_2 19 rfl rfl)
abbrev cX4_product : ByteArray := prog_23_method_33_code
def yX4_product : MethodName := ⟨RX4, "product", "()Z"⟩
def dkwX4_product_4 : List UInt8 := [182, 1, 137, 154, 0, 5, 3, 172, 42, 16, 11, 3, 182, 1, 133, 167, 255, 155, 4, 172]
abbrev dktX4_product_4 : List UInt8 := dkwX4_product_4 ++ []
def dkwX4_product_3 : List UInt8 := [42, 5, 182, 1, 117, 172, 42, 16, 12, 42, 180, 1, 108, 182, 1, 133, 42, 182, 1, 120, 167, 0, 19, 42]
abbrev dktX4_product_3 : List UInt8 := dkwX4_product_3 ++ dktX4_product_4
def dkwX4_product_2 : List UInt8 := [153, 0, 47, 42, 180, 1, 95, 5, 159, 0, 9, 42, 4, 182, 1, 117, 172, 42, 180, 1, 108, 154, 0, 9]
abbrev dktX4_product_2 : List UInt8 := dkwX4_product_2 ++ dktX4_product_3
def dkwX4_product_1 : List UInt8 := [160, 0, 89, 42, 180, 1, 95, 16, 47, 160, 0, 7, 4, 167, 0, 4, 3, 60, 42, 182, 1, 120, 27]
abbrev dktX4_product_1 : List UInt8 := dkwX4_product_1 ++ dktX4_product_2
def dkwX4_product_0 : List UInt8 := [42, 182, 1, 137, 154, 0, 5, 3, 172, 42, 180, 1, 95, 16, 42, 159, 0, 12, 42, 180, 1, 95, 16, 47]
abbrev dktX4_product_0 : List UInt8 := dkwX4_product_0 ++ dktX4_product_1
theorem dksX4_product_0 : cX4_product.data.toList.drop 0 = dktX4_product_0 := by decide +kernel
theorem dksX4_product_1 : cX4_product.data.toList.drop 24 = dktX4_product_1 := dk_seg dksX4_product_0 24 rfl rfl
theorem dksX4_product_2 : cX4_product.data.toList.drop 47 = dktX4_product_2 := dk_seg dksX4_product_1 23 rfl rfl
theorem dksX4_product_3 : cX4_product.data.toList.drop 71 = dktX4_product_3 := dk_seg dksX4_product_2 24 rfl rfl
theorem dksX4_product_4 : cX4_product.data.toList.drop 95 = dktX4_product_4 := dk_seg dksX4_product_3 24 rfl rfl
theorem dX4_product_0 : decode cX4_product 0 = .ok (.aload_n 0, 1) := dk_42 (dk_at dksX4_product_0 0 rfl rfl)
theorem dX4_product_1 : decode cX4_product 1 = .ok (.invokevirtual 393, 3) := dk_182 1 137 (dk_at dksX4_product_0 1 rfl rfl)
theorem dX4_product_4 : decode cX4_product 4 = .ok (.ifCond .ne 5, 3) := dk_154 0 5 (dk_at dksX4_product_0 4 rfl rfl)
theorem dX4_product_7 : decode cX4_product 7 = .ok (.iconst 0, 1) := dk_3 (dk_at dksX4_product_0 7 rfl rfl)
theorem dX4_product_8 : decode cX4_product 8 = .ok (.ireturn, 1) := dk_172 (dk_at dksX4_product_0 8 rfl rfl)
theorem dX4_product_9 : decode cX4_product 9 = .ok (.aload_n 0, 1) := dk_42 (dk_at dksX4_product_0 9 rfl rfl)
theorem dX4_product_10 : decode cX4_product 10 = .ok (.getfield 351, 3) := dk_180 1 95 (dk_at dksX4_product_0 10 rfl rfl)
theorem dX4_product_13 : decode cX4_product 13 = .ok (.bipush 42, 2) := dk_16 42 (dk_at dksX4_product_0 13 rfl rfl)
theorem dX4_product_15 : decode cX4_product 15 = .ok (.if_icmp .eq 12, 3) := dk_159 0 12 (dk_at dksX4_product_0 15 rfl rfl)
theorem dX4_product_18 : decode cX4_product 18 = .ok (.aload_n 0, 1) := dk_42 (dk_at dksX4_product_0 18 rfl rfl)
theorem dX4_product_19 : decode cX4_product 19 = .ok (.getfield 351, 3) := dk_180 1 95 (dk_at dksX4_product_0 19 rfl rfl)
theorem dX4_product_22 : decode cX4_product 22 = .ok (.bipush 47, 2) := dk_16 47 (dk_at dksX4_product_0 22 rfl rfl)
theorem dX4_product_24 : decode cX4_product 24 = .ok (.if_icmp .ne 89, 3) := dk_160 0 89 (dk_at dksX4_product_1 0 rfl rfl)
theorem dX4_product_27 : decode cX4_product 27 = .ok (.aload_n 0, 1) := dk_42 (dk_at dksX4_product_1 3 rfl rfl)
theorem dX4_product_28 : decode cX4_product 28 = .ok (.getfield 351, 3) := dk_180 1 95 (dk_at dksX4_product_1 4 rfl rfl)
theorem dX4_product_31 : decode cX4_product 31 = .ok (.bipush 47, 2) := dk_16 47 (dk_at dksX4_product_1 7 rfl rfl)
theorem dX4_product_33 : decode cX4_product 33 = .ok (.if_icmp .ne 7, 3) := dk_160 0 7 (dk_at dksX4_product_1 9 rfl rfl)
theorem dX4_product_36 : decode cX4_product 36 = .ok (.iconst 1, 1) := dk_4 (dk_at dksX4_product_1 12 rfl rfl)
theorem dX4_product_37 : decode cX4_product 37 = .ok (.goto 4, 3) := dk_167 0 4 (dk_at dksX4_product_1 13 rfl rfl)
theorem dX4_product_40 : decode cX4_product 40 = .ok (.iconst 0, 1) := dk_3 (dk_at dksX4_product_1 16 rfl rfl)
theorem dX4_product_41 : decode cX4_product 41 = .ok (.istore_n 1, 1) := dk_60 (dk_at dksX4_product_1 17 rfl rfl)
theorem dX4_product_42 : decode cX4_product 42 = .ok (.aload_n 0, 1) := dk_42 (dk_at dksX4_product_1 18 rfl rfl)
theorem dX4_product_43 : decode cX4_product 43 = .ok (.invokevirtual 376, 3) := dk_182 1 120 (dk_at dksX4_product_1 19 rfl rfl)
theorem dX4_product_46 : decode cX4_product 46 = .ok (.iload_n 1, 1) := dk_27 (dk_at dksX4_product_1 22 rfl rfl)
theorem dX4_product_47 : decode cX4_product 47 = .ok (.ifCond .eq 47, 3) := dk_153 0 47 (dk_at dksX4_product_2 0 rfl rfl)
theorem dX4_product_50 : decode cX4_product 50 = .ok (.aload_n 0, 1) := dk_42 (dk_at dksX4_product_2 3 rfl rfl)
theorem dX4_product_51 : decode cX4_product 51 = .ok (.getfield 351, 3) := dk_180 1 95 (dk_at dksX4_product_2 4 rfl rfl)
theorem dX4_product_54 : decode cX4_product 54 = .ok (.iconst 2, 1) := dk_5 (dk_at dksX4_product_2 7 rfl rfl)
theorem dX4_product_55 : decode cX4_product 55 = .ok (.if_icmp .eq 9, 3) := dk_159 0 9 (dk_at dksX4_product_2 8 rfl rfl)
theorem dX4_product_58 : decode cX4_product 58 = .ok (.aload_n 0, 1) := dk_42 (dk_at dksX4_product_2 11 rfl rfl)
theorem dX4_product_59 : decode cX4_product 59 = .ok (.iconst 1, 1) := dk_4 (dk_at dksX4_product_2 12 rfl rfl)
theorem dX4_product_60 : decode cX4_product 60 = .ok (.invokevirtual 373, 3) := dk_182 1 117 (dk_at dksX4_product_2 13 rfl rfl)
theorem dX4_product_63 : decode cX4_product 63 = .ok (.ireturn, 1) := dk_172 (dk_at dksX4_product_2 16 rfl rfl)
theorem dX4_product_64 : decode cX4_product 64 = .ok (.aload_n 0, 1) := dk_42 (dk_at dksX4_product_2 17 rfl rfl)
theorem dX4_product_65 : decode cX4_product 65 = .ok (.getfield 364, 3) := dk_180 1 108 (dk_at dksX4_product_2 18 rfl rfl)
theorem dX4_product_68 : decode cX4_product 68 = .ok (.ifCond .ne 9, 3) := dk_154 0 9 (dk_at dksX4_product_2 21 rfl rfl)
theorem dX4_product_71 : decode cX4_product 71 = .ok (.aload_n 0, 1) := dk_42 (dk_at dksX4_product_3 0 rfl rfl)
theorem dX4_product_72 : decode cX4_product 72 = .ok (.iconst 2, 1) := dk_5 (dk_at dksX4_product_3 1 rfl rfl)
theorem dX4_product_73 : decode cX4_product 73 = .ok (.invokevirtual 373, 3) := dk_182 1 117 (dk_at dksX4_product_3 2 rfl rfl)
theorem dX4_product_76 : decode cX4_product 76 = .ok (.ireturn, 1) := dk_172 (dk_at dksX4_product_3 5 rfl rfl)
theorem dX4_product_77 : decode cX4_product 77 = .ok (.aload_n 0, 1) := dk_42 (dk_at dksX4_product_3 6 rfl rfl)
theorem dX4_product_78 : decode cX4_product 78 = .ok (.bipush 12, 2) := dk_16 12 (dk_at dksX4_product_3 7 rfl rfl)
theorem dX4_product_80 : decode cX4_product 80 = .ok (.aload_n 0, 1) := dk_42 (dk_at dksX4_product_3 9 rfl rfl)
theorem dX4_product_81 : decode cX4_product 81 = .ok (.getfield 364, 3) := dk_180 1 108 (dk_at dksX4_product_3 10 rfl rfl)
theorem dX4_product_84 : decode cX4_product 84 = .ok (.invokevirtual 389, 3) := dk_182 1 133 (dk_at dksX4_product_3 13 rfl rfl)
theorem dX4_product_87 : decode cX4_product 87 = .ok (.aload_n 0, 1) := dk_42 (dk_at dksX4_product_3 16 rfl rfl)
theorem dX4_product_88 : decode cX4_product 88 = .ok (.invokevirtual 376, 3) := dk_182 1 120 (dk_at dksX4_product_3 17 rfl rfl)
theorem dX4_product_91 : decode cX4_product 91 = .ok (.goto 19, 3) := dk_167 0 19 (dk_at dksX4_product_3 20 rfl rfl)
theorem dX4_product_94 : decode cX4_product 94 = .ok (.aload_n 0, 1) := dk_42 (dk_at dksX4_product_3 23 rfl rfl)
theorem dX4_product_95 : decode cX4_product 95 = .ok (.invokevirtual 393, 3) := dk_182 1 137 (dk_at dksX4_product_4 0 rfl rfl)
theorem dX4_product_98 : decode cX4_product 98 = .ok (.ifCond .ne 5, 3) := dk_154 0 5 (dk_at dksX4_product_4 3 rfl rfl)
theorem dX4_product_101 : decode cX4_product 101 = .ok (.iconst 0, 1) := dk_3 (dk_at dksX4_product_4 6 rfl rfl)
theorem dX4_product_102 : decode cX4_product 102 = .ok (.ireturn, 1) := dk_172 (dk_at dksX4_product_4 7 rfl rfl)
theorem dX4_product_103 : decode cX4_product 103 = .ok (.aload_n 0, 1) := dk_42 (dk_at dksX4_product_4 8 rfl rfl)
theorem dX4_product_104 : decode cX4_product 104 = .ok (.bipush 11, 2) := dk_16 11 (dk_at dksX4_product_4 9 rfl rfl)
theorem dX4_product_106 : decode cX4_product 106 = .ok (.iconst 0, 1) := dk_3 (dk_at dksX4_product_4 11 rfl rfl)
theorem dX4_product_107 : decode cX4_product 107 = .ok (.invokevirtual 389, 3) := dk_182 1 133 (dk_at dksX4_product_4 12 rfl rfl)
theorem dX4_product_110 : decode cX4_product 110 = .ok (.goto (-101), 3) := dk_167 255 155 (dk_at dksX4_product_4 15 rfl rfl)
theorem dX4_product_113 : decode cX4_product 113 = .ok (.iconst 1, 1) := dk_4 (dk_at dksX4_product_4 18 rfl rfl)
theorem dX4_product_114 : decode cX4_product 114 = .ok (.ireturn, 1) := dk_172 (dk_at dksX4_product_4 19 rfl rfl)
abbrev cX4_unit : ByteArray := prog_23_method_34_code
def yX4_unit : MethodName := ⟨RX4, "unit", "()Z"⟩
def dkwX4_unit_4 : List UInt8 := [180, 1, 108, 182, 1, 133, 42, 182, 1, 120, 4, 172]
abbrev dktX4_unit_4 : List UInt8 := dkwX4_unit_4 ++ []
def dkwX4_unit_3 : List UInt8 := [42, 180, 1, 95, 5, 160, 0, 7, 3, 167, 0, 13, 4, 42, 180, 1, 95, 96, 17, 0, 201, 100, 42]
abbrev dktX4_unit_3 : List UInt8 := dkwX4_unit_3 ++ dktX4_unit_4
def dkwX4_unit_2 : List UInt8 := [180, 1, 95, 5, 159, 0, 19, 42, 180, 1, 95, 17, 0, 201, 162, 0, 9, 42, 4, 182, 1, 117, 172, 42]
abbrev dktX4_unit_2 : List UInt8 := dkwX4_unit_2 ++ dktX4_unit_3
def dkwX4_unit_1 : List UInt8 := [16, 41, 182, 1, 146, 154, 0, 5, 3, 172, 42, 89, 180, 1, 126, 4, 100, 181, 1, 126, 4, 172, 42]
abbrev dktX4_unit_1 : List UInt8 := dkwX4_unit_1 ++ dktX4_unit_2
def dkwX4_unit_0 : List UInt8 := [42, 180, 1, 95, 16, 40, 160, 0, 40, 42, 182, 1, 140, 153, 0, 19, 42, 182, 1, 143, 153, 0, 12, 42]
abbrev dktX4_unit_0 : List UInt8 := dkwX4_unit_0 ++ dktX4_unit_1
theorem dksX4_unit_0 : cX4_unit.data.toList.drop 0 = dktX4_unit_0 := by decide +kernel
theorem dksX4_unit_1 : cX4_unit.data.toList.drop 24 = dktX4_unit_1 := dk_seg dksX4_unit_0 24 rfl rfl
theorem dksX4_unit_2 : cX4_unit.data.toList.drop 47 = dktX4_unit_2 := dk_seg dksX4_unit_1 23 rfl rfl
theorem dksX4_unit_3 : cX4_unit.data.toList.drop 71 = dktX4_unit_3 := dk_seg dksX4_unit_2 24 rfl rfl
theorem dksX4_unit_4 : cX4_unit.data.toList.drop 94 = dktX4_unit_4 := dk_seg dksX4_unit_3 23 rfl rfl
theorem dX4_unit_0 : decode cX4_unit 0 = .ok (.aload_n 0, 1) := dk_42 (dk_at dksX4_unit_0 0 rfl rfl)
theorem dX4_unit_1 : decode cX4_unit 1 = .ok (.getfield 351, 3) := dk_180 1 95 (dk_at dksX4_unit_0 1 rfl rfl)
theorem dX4_unit_4 : decode cX4_unit 4 = .ok (.bipush 40, 2) := dk_16 40 (dk_at dksX4_unit_0 4 rfl rfl)
theorem dX4_unit_6 : decode cX4_unit 6 = .ok (.if_icmp .ne 40, 3) := dk_160 0 40 (dk_at dksX4_unit_0 6 rfl rfl)
theorem dX4_unit_9 : decode cX4_unit 9 = .ok (.aload_n 0, 1) := dk_42 (dk_at dksX4_unit_0 9 rfl rfl)
theorem dX4_unit_10 : decode cX4_unit 10 = .ok (.invokevirtual 396, 3) := dk_182 1 140 (dk_at dksX4_unit_0 10 rfl rfl)
theorem dX4_unit_13 : decode cX4_unit 13 = .ok (.ifCond .eq 19, 3) := dk_153 0 19 (dk_at dksX4_unit_0 13 rfl rfl)
theorem dX4_unit_16 : decode cX4_unit 16 = .ok (.aload_n 0, 1) := dk_42 (dk_at dksX4_unit_0 16 rfl rfl)
theorem dX4_unit_17 : decode cX4_unit 17 = .ok (.invokevirtual 399, 3) := dk_182 1 143 (dk_at dksX4_unit_0 17 rfl rfl)
theorem dX4_unit_20 : decode cX4_unit 20 = .ok (.ifCond .eq 12, 3) := dk_153 0 12 (dk_at dksX4_unit_0 20 rfl rfl)
theorem dX4_unit_23 : decode cX4_unit 23 = .ok (.aload_n 0, 1) := dk_42 (dk_at dksX4_unit_0 23 rfl rfl)
theorem dX4_unit_24 : decode cX4_unit 24 = .ok (.bipush 41, 2) := dk_16 41 (dk_at dksX4_unit_1 0 rfl rfl)
theorem dX4_unit_26 : decode cX4_unit 26 = .ok (.invokevirtual 402, 3) := dk_182 1 146 (dk_at dksX4_unit_1 2 rfl rfl)
theorem dX4_unit_29 : decode cX4_unit 29 = .ok (.ifCond .ne 5, 3) := dk_154 0 5 (dk_at dksX4_unit_1 5 rfl rfl)
theorem dX4_unit_32 : decode cX4_unit 32 = .ok (.iconst 0, 1) := dk_3 (dk_at dksX4_unit_1 8 rfl rfl)
theorem dX4_unit_33 : decode cX4_unit 33 = .ok (.ireturn, 1) := dk_172 (dk_at dksX4_unit_1 9 rfl rfl)
theorem dX4_unit_34 : decode cX4_unit 34 = .ok (.aload_n 0, 1) := dk_42 (dk_at dksX4_unit_1 10 rfl rfl)
theorem dX4_unit_35 : decode cX4_unit 35 = .ok (.dup, 1) := dk_89 (dk_at dksX4_unit_1 11 rfl rfl)
theorem dX4_unit_36 : decode cX4_unit 36 = .ok (.getfield 382, 3) := dk_180 1 126 (dk_at dksX4_unit_1 12 rfl rfl)
theorem dX4_unit_39 : decode cX4_unit 39 = .ok (.iconst 1, 1) := dk_4 (dk_at dksX4_unit_1 15 rfl rfl)
theorem dX4_unit_40 : decode cX4_unit 40 = .ok (.isub, 1) := dk_100 (dk_at dksX4_unit_1 16 rfl rfl)
theorem dX4_unit_41 : decode cX4_unit 41 = .ok (.putfield 382, 3) := dk_181 1 126 (dk_at dksX4_unit_1 17 rfl rfl)
theorem dX4_unit_44 : decode cX4_unit 44 = .ok (.iconst 1, 1) := dk_4 (dk_at dksX4_unit_1 20 rfl rfl)
theorem dX4_unit_45 : decode cX4_unit 45 = .ok (.ireturn, 1) := dk_172 (dk_at dksX4_unit_1 21 rfl rfl)
theorem dX4_unit_46 : decode cX4_unit 46 = .ok (.aload_n 0, 1) := dk_42 (dk_at dksX4_unit_1 22 rfl rfl)
theorem dX4_unit_47 : decode cX4_unit 47 = .ok (.getfield 351, 3) := dk_180 1 95 (dk_at dksX4_unit_2 0 rfl rfl)
theorem dX4_unit_50 : decode cX4_unit 50 = .ok (.iconst 2, 1) := dk_5 (dk_at dksX4_unit_2 3 rfl rfl)
theorem dX4_unit_51 : decode cX4_unit 51 = .ok (.if_icmp .eq 19, 3) := dk_159 0 19 (dk_at dksX4_unit_2 4 rfl rfl)
theorem dX4_unit_54 : decode cX4_unit 54 = .ok (.aload_n 0, 1) := dk_42 (dk_at dksX4_unit_2 7 rfl rfl)
theorem dX4_unit_55 : decode cX4_unit 55 = .ok (.getfield 351, 3) := dk_180 1 95 (dk_at dksX4_unit_2 8 rfl rfl)
theorem dX4_unit_58 : decode cX4_unit 58 = .ok (.sipush 201, 3) := dk_17 0 201 (dk_at dksX4_unit_2 11 rfl rfl)
theorem dX4_unit_61 : decode cX4_unit 61 = .ok (.if_icmp .ge 9, 3) := dk_162 0 9 (dk_at dksX4_unit_2 14 rfl rfl)
theorem dX4_unit_64 : decode cX4_unit 64 = .ok (.aload_n 0, 1) := dk_42 (dk_at dksX4_unit_2 17 rfl rfl)
theorem dX4_unit_65 : decode cX4_unit 65 = .ok (.iconst 1, 1) := dk_4 (dk_at dksX4_unit_2 18 rfl rfl)
theorem dX4_unit_66 : decode cX4_unit 66 = .ok (.invokevirtual 373, 3) := dk_182 1 117 (dk_at dksX4_unit_2 19 rfl rfl)
theorem dX4_unit_69 : decode cX4_unit 69 = .ok (.ireturn, 1) := dk_172 (dk_at dksX4_unit_2 22 rfl rfl)
theorem dX4_unit_70 : decode cX4_unit 70 = .ok (.aload_n 0, 1) := dk_42 (dk_at dksX4_unit_2 23 rfl rfl)
theorem dX4_unit_71 : decode cX4_unit 71 = .ok (.aload_n 0, 1) := dk_42 (dk_at dksX4_unit_3 0 rfl rfl)
theorem dX4_unit_72 : decode cX4_unit 72 = .ok (.getfield 351, 3) := dk_180 1 95 (dk_at dksX4_unit_3 1 rfl rfl)
theorem dX4_unit_75 : decode cX4_unit 75 = .ok (.iconst 2, 1) := dk_5 (dk_at dksX4_unit_3 4 rfl rfl)
theorem dX4_unit_76 : decode cX4_unit 76 = .ok (.if_icmp .ne 7, 3) := dk_160 0 7 (dk_at dksX4_unit_3 5 rfl rfl)
theorem dX4_unit_79 : decode cX4_unit 79 = .ok (.iconst 0, 1) := dk_3 (dk_at dksX4_unit_3 8 rfl rfl)
theorem dX4_unit_80 : decode cX4_unit 80 = .ok (.goto 13, 3) := dk_167 0 13 (dk_at dksX4_unit_3 9 rfl rfl)
theorem dX4_unit_83 : decode cX4_unit 83 = .ok (.iconst 1, 1) := dk_4 (dk_at dksX4_unit_3 12 rfl rfl)
theorem dX4_unit_84 : decode cX4_unit 84 = .ok (.aload_n 0, 1) := dk_42 (dk_at dksX4_unit_3 13 rfl rfl)
theorem dX4_unit_85 : decode cX4_unit 85 = .ok (.getfield 351, 3) := dk_180 1 95 (dk_at dksX4_unit_3 14 rfl rfl)
theorem dX4_unit_88 : decode cX4_unit 88 = .ok (.iadd, 1) := dk_96 (dk_at dksX4_unit_3 17 rfl rfl)
theorem dX4_unit_89 : decode cX4_unit 89 = .ok (.sipush 201, 3) := dk_17 0 201 (dk_at dksX4_unit_3 18 rfl rfl)
theorem dX4_unit_92 : decode cX4_unit 92 = .ok (.isub, 1) := dk_100 (dk_at dksX4_unit_3 21 rfl rfl)
theorem dX4_unit_93 : decode cX4_unit 93 = .ok (.aload_n 0, 1) := dk_42 (dk_at dksX4_unit_3 22 rfl rfl)
theorem dX4_unit_94 : decode cX4_unit 94 = .ok (.getfield 364, 3) := dk_180 1 108 (dk_at dksX4_unit_4 0 rfl rfl)
theorem dX4_unit_97 : decode cX4_unit 97 = .ok (.invokevirtual 389, 3) := dk_182 1 133 (dk_at dksX4_unit_4 3 rfl rfl)
theorem dX4_unit_100 : decode cX4_unit 100 = .ok (.aload_n 0, 1) := dk_42 (dk_at dksX4_unit_4 6 rfl rfl)
theorem dX4_unit_101 : decode cX4_unit 101 = .ok (.invokevirtual 376, 3) := dk_182 1 120 (dk_at dksX4_unit_4 7 rfl rfl)
theorem dX4_unit_104 : decode cX4_unit 104 = .ok (.iconst 1, 1) := dk_4 (dk_at dksX4_unit_4 10 rfl rfl)
theorem dX4_unit_105 : decode cX4_unit 105 = .ok (.ireturn, 1) := dk_172 (dk_at dksX4_unit_4 11 rfl rfl)
abbrev cX4_opens : ByteArray := prog_23_method_31_code
def yX4_opens : MethodName := ⟨RX4, "opens", "()Z"⟩
def dkwX4_opens_1 : List UInt8 := [181, 1, 126, 42, 182, 1, 120, 4, 172]
abbrev dktX4_opens_1 : List UInt8 := dkwX4_opens_1 ++ []
def dkwX4_opens_0 : List UInt8 := [42, 180, 1, 126, 16, 8, 160, 0, 9, 42, 6, 182, 1, 117, 172, 42, 89, 180, 1, 126, 4, 96]
abbrev dktX4_opens_0 : List UInt8 := dkwX4_opens_0 ++ dktX4_opens_1
theorem dksX4_opens_0 : cX4_opens.data.toList.drop 0 = dktX4_opens_0 := by decide +kernel
theorem dksX4_opens_1 : cX4_opens.data.toList.drop 22 = dktX4_opens_1 := dk_seg dksX4_opens_0 22 rfl rfl
theorem dX4_opens_0 : decode cX4_opens 0 = .ok (.aload_n 0, 1) := dk_42 (dk_at dksX4_opens_0 0 rfl rfl)
theorem dX4_opens_1 : decode cX4_opens 1 = .ok (.getfield 382, 3) := dk_180 1 126 (dk_at dksX4_opens_0 1 rfl rfl)
theorem dX4_opens_4 : decode cX4_opens 4 = .ok (.bipush 8, 2) := dk_16 8 (dk_at dksX4_opens_0 4 rfl rfl)
theorem dX4_opens_6 : decode cX4_opens 6 = .ok (.if_icmp .ne 9, 3) := dk_160 0 9 (dk_at dksX4_opens_0 6 rfl rfl)
theorem dX4_opens_9 : decode cX4_opens 9 = .ok (.aload_n 0, 1) := dk_42 (dk_at dksX4_opens_0 9 rfl rfl)
theorem dX4_opens_10 : decode cX4_opens 10 = .ok (.iconst 3, 1) := dk_6 (dk_at dksX4_opens_0 10 rfl rfl)
theorem dX4_opens_11 : decode cX4_opens 11 = .ok (.invokevirtual 373, 3) := dk_182 1 117 (dk_at dksX4_opens_0 11 rfl rfl)
theorem dX4_opens_14 : decode cX4_opens 14 = .ok (.ireturn, 1) := dk_172 (dk_at dksX4_opens_0 14 rfl rfl)
theorem dX4_opens_15 : decode cX4_opens 15 = .ok (.aload_n 0, 1) := dk_42 (dk_at dksX4_opens_0 15 rfl rfl)
theorem dX4_opens_16 : decode cX4_opens 16 = .ok (.dup, 1) := dk_89 (dk_at dksX4_opens_0 16 rfl rfl)
theorem dX4_opens_17 : decode cX4_opens 17 = .ok (.getfield 382, 3) := dk_180 1 126 (dk_at dksX4_opens_0 17 rfl rfl)
theorem dX4_opens_20 : decode cX4_opens 20 = .ok (.iconst 1, 1) := dk_4 (dk_at dksX4_opens_0 20 rfl rfl)
theorem dX4_opens_21 : decode cX4_opens 21 = .ok (.iadd, 1) := dk_96 (dk_at dksX4_opens_0 21 rfl rfl)
theorem dX4_opens_22 : decode cX4_opens 22 = .ok (.putfield 382, 3) := dk_181 1 126 (dk_at dksX4_opens_1 0 rfl rfl)
theorem dX4_opens_25 : decode cX4_opens 25 = .ok (.aload_n 0, 1) := dk_42 (dk_at dksX4_opens_1 3 rfl rfl)
theorem dX4_opens_26 : decode cX4_opens 26 = .ok (.invokevirtual 376, 3) := dk_182 1 120 (dk_at dksX4_opens_1 4 rfl rfl)
theorem dX4_opens_29 : decode cX4_opens 29 = .ok (.iconst 1, 1) := dk_4 (dk_at dksX4_opens_1 7 rfl rfl)
theorem dX4_opens_30 : decode cX4_opens 30 = .ok (.ireturn, 1) := dk_172 (dk_at dksX4_opens_1 8 rfl rfl)
abbrev cX4_need : ByteArray := prog_23_method_29_code
def yX4_need : MethodName := ⟨RX4, "need", "(I)Z"⟩
def dkwX4_need_0 : List UInt8 := [42, 180, 1, 95, 27, 159, 0, 9, 42, 4, 182, 1, 117, 172, 42, 182, 1, 120, 4, 172]
abbrev dktX4_need_0 : List UInt8 := dkwX4_need_0 ++ []
theorem dksX4_need_0 : cX4_need.data.toList.drop 0 = dktX4_need_0 := by decide +kernel
theorem dX4_need_0 : decode cX4_need 0 = .ok (.aload_n 0, 1) := dk_42 (dk_at dksX4_need_0 0 rfl rfl)
theorem dX4_need_1 : decode cX4_need 1 = .ok (.getfield 351, 3) := dk_180 1 95 (dk_at dksX4_need_0 1 rfl rfl)
theorem dX4_need_4 : decode cX4_need 4 = .ok (.iload_n 1, 1) := dk_27 (dk_at dksX4_need_0 4 rfl rfl)
theorem dX4_need_5 : decode cX4_need 5 = .ok (.if_icmp .eq 9, 3) := dk_159 0 9 (dk_at dksX4_need_0 5 rfl rfl)
theorem dX4_need_8 : decode cX4_need 8 = .ok (.aload_n 0, 1) := dk_42 (dk_at dksX4_need_0 8 rfl rfl)
theorem dX4_need_9 : decode cX4_need 9 = .ok (.iconst 1, 1) := dk_4 (dk_at dksX4_need_0 9 rfl rfl)
theorem dX4_need_10 : decode cX4_need 10 = .ok (.invokevirtual 373, 3) := dk_182 1 117 (dk_at dksX4_need_0 10 rfl rfl)
theorem dX4_need_13 : decode cX4_need 13 = .ok (.ireturn, 1) := dk_172 (dk_at dksX4_need_0 13 rfl rfl)
theorem dX4_need_14 : decode cX4_need 14 = .ok (.aload_n 0, 1) := dk_42 (dk_at dksX4_need_0 14 rfl rfl)
theorem dX4_need_15 : decode cX4_need 15 = .ok (.invokevirtual 376, 3) := dk_182 1 120 (dk_at dksX4_need_0 15 rfl rfl)
theorem dX4_need_18 : decode cX4_need 18 = .ok (.iconst 1, 1) := dk_4 (dk_at dksX4_need_0 18 rfl rfl)
theorem dX4_need_19 : decode cX4_need 19 = .ok (.ireturn, 1) := dk_172 (dk_at dksX4_need_0 19 rfl rfl)
abbrev cX4_lay : ByteArray := prog_23_method_30_code
def yX4_lay : MethodName := ⟨RX4, "lay", "(II)V"⟩
def dkwX4_lay_1 : List UInt8 := [28, 79, 42, 89, 180, 1, 123, 4, 96, 181, 1, 123, 177]
abbrev dktX4_lay_1 : List UInt8 := dkwX4_lay_1 ++ []
def dkwX4_lay_0 : List UInt8 := [42, 180, 0, 96, 5, 42, 180, 1, 123, 104, 27, 79, 42, 180, 0, 96, 5, 42, 180, 1, 123, 104, 4, 96]
abbrev dktX4_lay_0 : List UInt8 := dkwX4_lay_0 ++ dktX4_lay_1
theorem dksX4_lay_0 : cX4_lay.data.toList.drop 0 = dktX4_lay_0 := by decide +kernel
theorem dksX4_lay_1 : cX4_lay.data.toList.drop 24 = dktX4_lay_1 := dk_seg dksX4_lay_0 24 rfl rfl
theorem dX4_lay_0 : decode cX4_lay 0 = .ok (.aload_n 0, 1) := dk_42 (dk_at dksX4_lay_0 0 rfl rfl)
theorem dX4_lay_1 : decode cX4_lay 1 = .ok (.getfield 96, 3) := dk_180 0 96 (dk_at dksX4_lay_0 1 rfl rfl)
theorem dX4_lay_4 : decode cX4_lay 4 = .ok (.iconst 2, 1) := dk_5 (dk_at dksX4_lay_0 4 rfl rfl)
theorem dX4_lay_5 : decode cX4_lay 5 = .ok (.aload_n 0, 1) := dk_42 (dk_at dksX4_lay_0 5 rfl rfl)
theorem dX4_lay_6 : decode cX4_lay 6 = .ok (.getfield 379, 3) := dk_180 1 123 (dk_at dksX4_lay_0 6 rfl rfl)
theorem dX4_lay_9 : decode cX4_lay 9 = .ok (.imul, 1) := dk_104 (dk_at dksX4_lay_0 9 rfl rfl)
theorem dX4_lay_10 : decode cX4_lay 10 = .ok (.iload_n 1, 1) := dk_27 (dk_at dksX4_lay_0 10 rfl rfl)
theorem dX4_lay_11 : decode cX4_lay 11 = .ok (.iastore, 1) := dk_79 (dk_at dksX4_lay_0 11 rfl rfl)
theorem dX4_lay_12 : decode cX4_lay 12 = .ok (.aload_n 0, 1) := dk_42 (dk_at dksX4_lay_0 12 rfl rfl)
theorem dX4_lay_13 : decode cX4_lay 13 = .ok (.getfield 96, 3) := dk_180 0 96 (dk_at dksX4_lay_0 13 rfl rfl)
theorem dX4_lay_16 : decode cX4_lay 16 = .ok (.iconst 2, 1) := dk_5 (dk_at dksX4_lay_0 16 rfl rfl)
theorem dX4_lay_17 : decode cX4_lay 17 = .ok (.aload_n 0, 1) := dk_42 (dk_at dksX4_lay_0 17 rfl rfl)
theorem dX4_lay_18 : decode cX4_lay 18 = .ok (.getfield 379, 3) := dk_180 1 123 (dk_at dksX4_lay_0 18 rfl rfl)
theorem dX4_lay_21 : decode cX4_lay 21 = .ok (.imul, 1) := dk_104 (dk_at dksX4_lay_0 21 rfl rfl)
theorem dX4_lay_22 : decode cX4_lay 22 = .ok (.iconst 1, 1) := dk_4 (dk_at dksX4_lay_0 22 rfl rfl)
theorem dX4_lay_23 : decode cX4_lay 23 = .ok (.iadd, 1) := dk_96 (dk_at dksX4_lay_0 23 rfl rfl)
theorem dX4_lay_24 : decode cX4_lay 24 = .ok (.iload_n 2, 1) := dk_28 (dk_at dksX4_lay_1 0 rfl rfl)
theorem dX4_lay_25 : decode cX4_lay 25 = .ok (.iastore, 1) := dk_79 (dk_at dksX4_lay_1 1 rfl rfl)
theorem dX4_lay_26 : decode cX4_lay 26 = .ok (.aload_n 0, 1) := dk_42 (dk_at dksX4_lay_1 2 rfl rfl)
theorem dX4_lay_27 : decode cX4_lay 27 = .ok (.dup, 1) := dk_89 (dk_at dksX4_lay_1 3 rfl rfl)
theorem dX4_lay_28 : decode cX4_lay 28 = .ok (.getfield 379, 3) := dk_180 1 123 (dk_at dksX4_lay_1 4 rfl rfl)
theorem dX4_lay_31 : decode cX4_lay 31 = .ok (.iconst 1, 1) := dk_4 (dk_at dksX4_lay_1 7 rfl rfl)
theorem dX4_lay_32 : decode cX4_lay 32 = .ok (.iadd, 1) := dk_96 (dk_at dksX4_lay_1 8 rfl rfl)
theorem dX4_lay_33 : decode cX4_lay 33 = .ok (.putfield 379, 3) := dk_181 1 123 (dk_at dksX4_lay_1 9 rfl rfl)
theorem dX4_lay_36 : decode cX4_lay 36 = .ok (.return_, 1) := dk_177 (dk_at dksX4_lay_1 12 rfl rfl)
abbrev cX4_any : ByteArray := prog_23_method_35_code
def yX4_any : MethodName := ⟨RX4, "any", "()Z"⟩
def dkwX4_any_1 : List UInt8 := [182, 1, 149, 154, 0, 5, 3, 172, 42, 16, 18, 3, 182, 1, 133, 167, 255, 227, 4, 172]
abbrev dktX4_any_1 : List UInt8 := dkwX4_any_1 ++ []
def dkwX4_any_0 : List UInt8 := [42, 182, 1, 149, 154, 0, 5, 3, 172, 42, 180, 1, 95, 16, 9, 160, 0, 26, 42, 182, 1, 120, 42]
abbrev dktX4_any_0 : List UInt8 := dkwX4_any_0 ++ dktX4_any_1
theorem dksX4_any_0 : cX4_any.data.toList.drop 0 = dktX4_any_0 := by decide +kernel
theorem dksX4_any_1 : cX4_any.data.toList.drop 23 = dktX4_any_1 := dk_seg dksX4_any_0 23 rfl rfl
theorem dX4_any_0 : decode cX4_any 0 = .ok (.aload_n 0, 1) := dk_42 (dk_at dksX4_any_0 0 rfl rfl)
theorem dX4_any_1 : decode cX4_any 1 = .ok (.invokevirtual 405, 3) := dk_182 1 149 (dk_at dksX4_any_0 1 rfl rfl)
theorem dX4_any_4 : decode cX4_any 4 = .ok (.ifCond .ne 5, 3) := dk_154 0 5 (dk_at dksX4_any_0 4 rfl rfl)
theorem dX4_any_7 : decode cX4_any 7 = .ok (.iconst 0, 1) := dk_3 (dk_at dksX4_any_0 7 rfl rfl)
theorem dX4_any_8 : decode cX4_any 8 = .ok (.ireturn, 1) := dk_172 (dk_at dksX4_any_0 8 rfl rfl)
theorem dX4_any_9 : decode cX4_any 9 = .ok (.aload_n 0, 1) := dk_42 (dk_at dksX4_any_0 9 rfl rfl)
theorem dX4_any_10 : decode cX4_any 10 = .ok (.getfield 351, 3) := dk_180 1 95 (dk_at dksX4_any_0 10 rfl rfl)
theorem dX4_any_13 : decode cX4_any 13 = .ok (.bipush 9, 2) := dk_16 9 (dk_at dksX4_any_0 13 rfl rfl)
theorem dX4_any_15 : decode cX4_any 15 = .ok (.if_icmp .ne 26, 3) := dk_160 0 26 (dk_at dksX4_any_0 15 rfl rfl)
theorem dX4_any_18 : decode cX4_any 18 = .ok (.aload_n 0, 1) := dk_42 (dk_at dksX4_any_0 18 rfl rfl)
theorem dX4_any_19 : decode cX4_any 19 = .ok (.invokevirtual 376, 3) := dk_182 1 120 (dk_at dksX4_any_0 19 rfl rfl)
theorem dX4_any_22 : decode cX4_any 22 = .ok (.aload_n 0, 1) := dk_42 (dk_at dksX4_any_0 22 rfl rfl)
theorem dX4_any_23 : decode cX4_any 23 = .ok (.invokevirtual 405, 3) := dk_182 1 149 (dk_at dksX4_any_1 0 rfl rfl)
theorem dX4_any_26 : decode cX4_any 26 = .ok (.ifCond .ne 5, 3) := dk_154 0 5 (dk_at dksX4_any_1 3 rfl rfl)
theorem dX4_any_29 : decode cX4_any 29 = .ok (.iconst 0, 1) := dk_3 (dk_at dksX4_any_1 6 rfl rfl)
theorem dX4_any_30 : decode cX4_any 30 = .ok (.ireturn, 1) := dk_172 (dk_at dksX4_any_1 7 rfl rfl)
theorem dX4_any_31 : decode cX4_any 31 = .ok (.aload_n 0, 1) := dk_42 (dk_at dksX4_any_1 8 rfl rfl)
theorem dX4_any_32 : decode cX4_any 32 = .ok (.bipush 18, 2) := dk_16 18 (dk_at dksX4_any_1 9 rfl rfl)
theorem dX4_any_34 : decode cX4_any 34 = .ok (.iconst 0, 1) := dk_3 (dk_at dksX4_any_1 11 rfl rfl)
theorem dX4_any_35 : decode cX4_any 35 = .ok (.invokevirtual 389, 3) := dk_182 1 133 (dk_at dksX4_any_1 12 rfl rfl)
theorem dX4_any_38 : decode cX4_any 38 = .ok (.goto (-29), 3) := dk_167 255 227 (dk_at dksX4_any_1 15 rfl rfl)
theorem dX4_any_41 : decode cX4_any 41 = .ok (.iconst 1, 1) := dk_4 (dk_at dksX4_any_1 18 rfl rfl)
theorem dX4_any_42 : decode cX4_any 42 = .ok (.ireturn, 1) := dk_172 (dk_at dksX4_any_1 19 rfl rfl)
abbrev cX4_all : ByteArray := prog_23_method_36_code
def yX4_all : MethodName := ⟨RX4, "all", "()Z"⟩
def dkwX4_all_1 : List UInt8 := [182, 1, 152, 154, 0, 5, 3, 172, 42, 16, 17, 3, 182, 1, 133, 167, 255, 227, 4, 172]
abbrev dktX4_all_1 : List UInt8 := dkwX4_all_1 ++ []
def dkwX4_all_0 : List UInt8 := [42, 182, 1, 152, 154, 0, 5, 3, 172, 42, 180, 1, 95, 16, 10, 160, 0, 26, 42, 182, 1, 120, 42]
abbrev dktX4_all_0 : List UInt8 := dkwX4_all_0 ++ dktX4_all_1
theorem dksX4_all_0 : cX4_all.data.toList.drop 0 = dktX4_all_0 := by decide +kernel
theorem dksX4_all_1 : cX4_all.data.toList.drop 23 = dktX4_all_1 := dk_seg dksX4_all_0 23 rfl rfl
theorem dX4_all_0 : decode cX4_all 0 = .ok (.aload_n 0, 1) := dk_42 (dk_at dksX4_all_0 0 rfl rfl)
theorem dX4_all_1 : decode cX4_all 1 = .ok (.invokevirtual 408, 3) := dk_182 1 152 (dk_at dksX4_all_0 1 rfl rfl)
theorem dX4_all_4 : decode cX4_all 4 = .ok (.ifCond .ne 5, 3) := dk_154 0 5 (dk_at dksX4_all_0 4 rfl rfl)
theorem dX4_all_7 : decode cX4_all 7 = .ok (.iconst 0, 1) := dk_3 (dk_at dksX4_all_0 7 rfl rfl)
theorem dX4_all_8 : decode cX4_all 8 = .ok (.ireturn, 1) := dk_172 (dk_at dksX4_all_0 8 rfl rfl)
theorem dX4_all_9 : decode cX4_all 9 = .ok (.aload_n 0, 1) := dk_42 (dk_at dksX4_all_0 9 rfl rfl)
theorem dX4_all_10 : decode cX4_all 10 = .ok (.getfield 351, 3) := dk_180 1 95 (dk_at dksX4_all_0 10 rfl rfl)
theorem dX4_all_13 : decode cX4_all 13 = .ok (.bipush 10, 2) := dk_16 10 (dk_at dksX4_all_0 13 rfl rfl)
theorem dX4_all_15 : decode cX4_all 15 = .ok (.if_icmp .ne 26, 3) := dk_160 0 26 (dk_at dksX4_all_0 15 rfl rfl)
theorem dX4_all_18 : decode cX4_all 18 = .ok (.aload_n 0, 1) := dk_42 (dk_at dksX4_all_0 18 rfl rfl)
theorem dX4_all_19 : decode cX4_all 19 = .ok (.invokevirtual 376, 3) := dk_182 1 120 (dk_at dksX4_all_0 19 rfl rfl)
theorem dX4_all_22 : decode cX4_all 22 = .ok (.aload_n 0, 1) := dk_42 (dk_at dksX4_all_0 22 rfl rfl)
theorem dX4_all_23 : decode cX4_all 23 = .ok (.invokevirtual 408, 3) := dk_182 1 152 (dk_at dksX4_all_1 0 rfl rfl)
theorem dX4_all_26 : decode cX4_all 26 = .ok (.ifCond .ne 5, 3) := dk_154 0 5 (dk_at dksX4_all_1 3 rfl rfl)
theorem dX4_all_29 : decode cX4_all 29 = .ok (.iconst 0, 1) := dk_3 (dk_at dksX4_all_1 6 rfl rfl)
theorem dX4_all_30 : decode cX4_all 30 = .ok (.ireturn, 1) := dk_172 (dk_at dksX4_all_1 7 rfl rfl)
theorem dX4_all_31 : decode cX4_all 31 = .ok (.aload_n 0, 1) := dk_42 (dk_at dksX4_all_1 8 rfl rfl)
theorem dX4_all_32 : decode cX4_all 32 = .ok (.bipush 17, 2) := dk_16 17 (dk_at dksX4_all_1 9 rfl rfl)
theorem dX4_all_34 : decode cX4_all 34 = .ok (.iconst 0, 1) := dk_3 (dk_at dksX4_all_1 11 rfl rfl)
theorem dX4_all_35 : decode cX4_all 35 = .ok (.invokevirtual 389, 3) := dk_182 1 133 (dk_at dksX4_all_1 12 rfl rfl)
theorem dX4_all_38 : decode cX4_all 38 = .ok (.goto (-29), 3) := dk_167 255 227 (dk_at dksX4_all_1 15 rfl rfl)
theorem dX4_all_41 : decode cX4_all 41 = .ok (.iconst 1, 1) := dk_4 (dk_at dksX4_all_1 18 rfl rfl)
theorem dX4_all_42 : decode cX4_all 42 = .ok (.ireturn, 1) := dk_172 (dk_at dksX4_all_1 19 rfl rfl)
abbrev cX4_one : ByteArray := prog_23_method_37_code
def yX4_one : MethodName := ⟨RX4, "one", "()Z"⟩
def dkwX4_one_5 : List UInt8 := [3, 172, 42, 27, 3, 182, 1, 133, 4, 172]
abbrev dktX4_one_5 : List UInt8 := dkwX4_one_5 ++ []
def dkwX4_one_4 : List UInt8 := [2, 60, 27, 2, 160, 0, 9, 42, 4, 182, 1, 117, 172, 42, 182, 1, 120, 42, 182, 1, 143, 154, 0, 5]
abbrev dktX4_one_4 : List UInt8 := dkwX4_one_4 ++ dktX4_one_5
def dkwX4_one_3 : List UInt8 := [16, 61, 160, 0, 8, 16, 14, 167, 0, 18, 42, 180, 1, 95, 16, 62, 160, 0, 8, 16, 15, 167, 0, 4]
abbrev dktX4_one_3 : List UInt8 := dkwX4_one_3 ++ dktX4_one_4
def dkwX4_one_2 : List UInt8 := [154, 0, 5, 3, 172, 42, 180, 1, 95, 16, 60, 160, 0, 8, 16, 13, 167, 0, 32, 42, 180, 1, 95]
abbrev dktX4_one_2 : List UInt8 := dkwX4_one_2 ++ dktX4_one_3
def dkwX4_one_1 : List UInt8 := [172, 42, 89, 180, 1, 126, 4, 100, 181, 1, 126, 42, 16, 16, 3, 182, 1, 133, 4, 172, 42, 182, 1, 143]
abbrev dktX4_one_1 : List UInt8 := dkwX4_one_1 ++ dktX4_one_2
def dkwX4_one_0 : List UInt8 := [42, 180, 1, 95, 16, 11, 160, 0, 38, 42, 182, 1, 140, 153, 0, 10, 42, 182, 1, 152, 154, 0, 5, 3]
abbrev dktX4_one_0 : List UInt8 := dkwX4_one_0 ++ dktX4_one_1
theorem dksX4_one_0 : cX4_one.data.toList.drop 0 = dktX4_one_0 := by decide +kernel
theorem dksX4_one_1 : cX4_one.data.toList.drop 24 = dktX4_one_1 := dk_seg dksX4_one_0 24 rfl rfl
theorem dksX4_one_2 : cX4_one.data.toList.drop 48 = dktX4_one_2 := dk_seg dksX4_one_1 24 rfl rfl
theorem dksX4_one_3 : cX4_one.data.toList.drop 71 = dktX4_one_3 := dk_seg dksX4_one_2 23 rfl rfl
theorem dksX4_one_4 : cX4_one.data.toList.drop 95 = dktX4_one_4 := dk_seg dksX4_one_3 24 rfl rfl
theorem dksX4_one_5 : cX4_one.data.toList.drop 119 = dktX4_one_5 := dk_seg dksX4_one_4 24 rfl rfl
theorem dX4_one_0 : decode cX4_one 0 = .ok (.aload_n 0, 1) := dk_42 (dk_at dksX4_one_0 0 rfl rfl)
theorem dX4_one_1 : decode cX4_one 1 = .ok (.getfield 351, 3) := dk_180 1 95 (dk_at dksX4_one_0 1 rfl rfl)
theorem dX4_one_4 : decode cX4_one 4 = .ok (.bipush 11, 2) := dk_16 11 (dk_at dksX4_one_0 4 rfl rfl)
theorem dX4_one_6 : decode cX4_one 6 = .ok (.if_icmp .ne 38, 3) := dk_160 0 38 (dk_at dksX4_one_0 6 rfl rfl)
theorem dX4_one_9 : decode cX4_one 9 = .ok (.aload_n 0, 1) := dk_42 (dk_at dksX4_one_0 9 rfl rfl)
theorem dX4_one_10 : decode cX4_one 10 = .ok (.invokevirtual 396, 3) := dk_182 1 140 (dk_at dksX4_one_0 10 rfl rfl)
theorem dX4_one_13 : decode cX4_one 13 = .ok (.ifCond .eq 10, 3) := dk_153 0 10 (dk_at dksX4_one_0 13 rfl rfl)
theorem dX4_one_16 : decode cX4_one 16 = .ok (.aload_n 0, 1) := dk_42 (dk_at dksX4_one_0 16 rfl rfl)
theorem dX4_one_17 : decode cX4_one 17 = .ok (.invokevirtual 408, 3) := dk_182 1 152 (dk_at dksX4_one_0 17 rfl rfl)
theorem dX4_one_20 : decode cX4_one 20 = .ok (.ifCond .ne 5, 3) := dk_154 0 5 (dk_at dksX4_one_0 20 rfl rfl)
theorem dX4_one_23 : decode cX4_one 23 = .ok (.iconst 0, 1) := dk_3 (dk_at dksX4_one_0 23 rfl rfl)
theorem dX4_one_24 : decode cX4_one 24 = .ok (.ireturn, 1) := dk_172 (dk_at dksX4_one_1 0 rfl rfl)
theorem dX4_one_25 : decode cX4_one 25 = .ok (.aload_n 0, 1) := dk_42 (dk_at dksX4_one_1 1 rfl rfl)
theorem dX4_one_26 : decode cX4_one 26 = .ok (.dup, 1) := dk_89 (dk_at dksX4_one_1 2 rfl rfl)
theorem dX4_one_27 : decode cX4_one 27 = .ok (.getfield 382, 3) := dk_180 1 126 (dk_at dksX4_one_1 3 rfl rfl)
theorem dX4_one_30 : decode cX4_one 30 = .ok (.iconst 1, 1) := dk_4 (dk_at dksX4_one_1 6 rfl rfl)
theorem dX4_one_31 : decode cX4_one 31 = .ok (.isub, 1) := dk_100 (dk_at dksX4_one_1 7 rfl rfl)
theorem dX4_one_32 : decode cX4_one 32 = .ok (.putfield 382, 3) := dk_181 1 126 (dk_at dksX4_one_1 8 rfl rfl)
theorem dX4_one_35 : decode cX4_one 35 = .ok (.aload_n 0, 1) := dk_42 (dk_at dksX4_one_1 11 rfl rfl)
theorem dX4_one_36 : decode cX4_one 36 = .ok (.bipush 16, 2) := dk_16 16 (dk_at dksX4_one_1 12 rfl rfl)
theorem dX4_one_38 : decode cX4_one 38 = .ok (.iconst 0, 1) := dk_3 (dk_at dksX4_one_1 14 rfl rfl)
theorem dX4_one_39 : decode cX4_one 39 = .ok (.invokevirtual 389, 3) := dk_182 1 133 (dk_at dksX4_one_1 15 rfl rfl)
theorem dX4_one_42 : decode cX4_one 42 = .ok (.iconst 1, 1) := dk_4 (dk_at dksX4_one_1 18 rfl rfl)
theorem dX4_one_43 : decode cX4_one 43 = .ok (.ireturn, 1) := dk_172 (dk_at dksX4_one_1 19 rfl rfl)
theorem dX4_one_44 : decode cX4_one 44 = .ok (.aload_n 0, 1) := dk_42 (dk_at dksX4_one_1 20 rfl rfl)
theorem dX4_one_45 : decode cX4_one 45 = .ok (.invokevirtual 399, 3) := dk_182 1 143 (dk_at dksX4_one_1 21 rfl rfl)
theorem dX4_one_48 : decode cX4_one 48 = .ok (.ifCond .ne 5, 3) := dk_154 0 5 (dk_at dksX4_one_2 0 rfl rfl)
theorem dX4_one_51 : decode cX4_one 51 = .ok (.iconst 0, 1) := dk_3 (dk_at dksX4_one_2 3 rfl rfl)
theorem dX4_one_52 : decode cX4_one 52 = .ok (.ireturn, 1) := dk_172 (dk_at dksX4_one_2 4 rfl rfl)
theorem dX4_one_53 : decode cX4_one 53 = .ok (.aload_n 0, 1) := dk_42 (dk_at dksX4_one_2 5 rfl rfl)
theorem dX4_one_54 : decode cX4_one 54 = .ok (.getfield 351, 3) := dk_180 1 95 (dk_at dksX4_one_2 6 rfl rfl)
theorem dX4_one_57 : decode cX4_one 57 = .ok (.bipush 60, 2) := dk_16 60 (dk_at dksX4_one_2 9 rfl rfl)
theorem dX4_one_59 : decode cX4_one 59 = .ok (.if_icmp .ne 8, 3) := dk_160 0 8 (dk_at dksX4_one_2 11 rfl rfl)
theorem dX4_one_62 : decode cX4_one 62 = .ok (.bipush 13, 2) := dk_16 13 (dk_at dksX4_one_2 14 rfl rfl)
theorem dX4_one_64 : decode cX4_one 64 = .ok (.goto 32, 3) := dk_167 0 32 (dk_at dksX4_one_2 16 rfl rfl)
theorem dX4_one_67 : decode cX4_one 67 = .ok (.aload_n 0, 1) := dk_42 (dk_at dksX4_one_2 19 rfl rfl)
theorem dX4_one_68 : decode cX4_one 68 = .ok (.getfield 351, 3) := dk_180 1 95 (dk_at dksX4_one_2 20 rfl rfl)
theorem dX4_one_71 : decode cX4_one 71 = .ok (.bipush 61, 2) := dk_16 61 (dk_at dksX4_one_3 0 rfl rfl)
theorem dX4_one_73 : decode cX4_one 73 = .ok (.if_icmp .ne 8, 3) := dk_160 0 8 (dk_at dksX4_one_3 2 rfl rfl)
theorem dX4_one_76 : decode cX4_one 76 = .ok (.bipush 14, 2) := dk_16 14 (dk_at dksX4_one_3 5 rfl rfl)
theorem dX4_one_78 : decode cX4_one 78 = .ok (.goto 18, 3) := dk_167 0 18 (dk_at dksX4_one_3 7 rfl rfl)
theorem dX4_one_81 : decode cX4_one 81 = .ok (.aload_n 0, 1) := dk_42 (dk_at dksX4_one_3 10 rfl rfl)
theorem dX4_one_82 : decode cX4_one 82 = .ok (.getfield 351, 3) := dk_180 1 95 (dk_at dksX4_one_3 11 rfl rfl)
theorem dX4_one_85 : decode cX4_one 85 = .ok (.bipush 62, 2) := dk_16 62 (dk_at dksX4_one_3 14 rfl rfl)
theorem dX4_one_87 : decode cX4_one 87 = .ok (.if_icmp .ne 8, 3) := dk_160 0 8 (dk_at dksX4_one_3 16 rfl rfl)
theorem dX4_one_90 : decode cX4_one 90 = .ok (.bipush 15, 2) := dk_16 15 (dk_at dksX4_one_3 19 rfl rfl)
theorem dX4_one_92 : decode cX4_one 92 = .ok (.goto 4, 3) := dk_167 0 4 (dk_at dksX4_one_3 21 rfl rfl)
theorem dX4_one_95 : decode cX4_one 95 = .ok (.iconst (-1), 1) := dk_2 (dk_at dksX4_one_4 0 rfl rfl)
theorem dX4_one_96 : decode cX4_one 96 = .ok (.istore_n 1, 1) := dk_60 (dk_at dksX4_one_4 1 rfl rfl)
theorem dX4_one_97 : decode cX4_one 97 = .ok (.iload_n 1, 1) := dk_27 (dk_at dksX4_one_4 2 rfl rfl)
theorem dX4_one_98 : decode cX4_one 98 = .ok (.iconst (-1), 1) := dk_2 (dk_at dksX4_one_4 3 rfl rfl)
theorem dX4_one_99 : decode cX4_one 99 = .ok (.if_icmp .ne 9, 3) := dk_160 0 9 (dk_at dksX4_one_4 4 rfl rfl)
theorem dX4_one_102 : decode cX4_one 102 = .ok (.aload_n 0, 1) := dk_42 (dk_at dksX4_one_4 7 rfl rfl)
theorem dX4_one_103 : decode cX4_one 103 = .ok (.iconst 1, 1) := dk_4 (dk_at dksX4_one_4 8 rfl rfl)
theorem dX4_one_104 : decode cX4_one 104 = .ok (.invokevirtual 373, 3) := dk_182 1 117 (dk_at dksX4_one_4 9 rfl rfl)
theorem dX4_one_107 : decode cX4_one 107 = .ok (.ireturn, 1) := dk_172 (dk_at dksX4_one_4 12 rfl rfl)
theorem dX4_one_108 : decode cX4_one 108 = .ok (.aload_n 0, 1) := dk_42 (dk_at dksX4_one_4 13 rfl rfl)
theorem dX4_one_109 : decode cX4_one 109 = .ok (.invokevirtual 376, 3) := dk_182 1 120 (dk_at dksX4_one_4 14 rfl rfl)
theorem dX4_one_112 : decode cX4_one 112 = .ok (.aload_n 0, 1) := dk_42 (dk_at dksX4_one_4 17 rfl rfl)
theorem dX4_one_113 : decode cX4_one 113 = .ok (.invokevirtual 399, 3) := dk_182 1 143 (dk_at dksX4_one_4 18 rfl rfl)
theorem dX4_one_116 : decode cX4_one 116 = .ok (.ifCond .ne 5, 3) := dk_154 0 5 (dk_at dksX4_one_4 21 rfl rfl)
theorem dX4_one_119 : decode cX4_one 119 = .ok (.iconst 0, 1) := dk_3 (dk_at dksX4_one_5 0 rfl rfl)
theorem dX4_one_120 : decode cX4_one 120 = .ok (.ireturn, 1) := dk_172 (dk_at dksX4_one_5 1 rfl rfl)
theorem dX4_one_121 : decode cX4_one 121 = .ok (.aload_n 0, 1) := dk_42 (dk_at dksX4_one_5 2 rfl rfl)
theorem dX4_one_122 : decode cX4_one 122 = .ok (.iload_n 1, 1) := dk_27 (dk_at dksX4_one_5 3 rfl rfl)
theorem dX4_one_123 : decode cX4_one 123 = .ok (.iconst 0, 1) := dk_3 (dk_at dksX4_one_5 4 rfl rfl)
theorem dX4_one_124 : decode cX4_one 124 = .ok (.invokevirtual 389, 3) := dk_182 1 133 (dk_at dksX4_one_5 5 rfl rfl)
theorem dX4_one_127 : decode cX4_one 127 = .ok (.iconst 1, 1) := dk_4 (dk_at dksX4_one_5 8 rfl rfl)
theorem dX4_one_128 : decode cX4_one 128 = .ok (.ireturn, 1) := dk_172 (dk_at dksX4_one_5 9 rfl rfl)
abbrev cX4_aNumber : ByteArray := prog_23_method_38_code
def yX4_aNumber : MethodName := ⟨RX4, "aNumber", "(I)Z"⟩
def dkwX4_aNumber_1 : List UInt8 := [182, 1, 117, 172, 42, 180, 0, 93, 42, 180, 1, 155, 42, 180, 1, 108, 79, 42, 182, 1, 120, 4, 172]
abbrev dktX4_aNumber_1 : List UInt8 := dkwX4_aNumber_1 ++ []
def dkwX4_aNumber_0 : List UInt8 := [42, 180, 1, 95, 5, 159, 0, 9, 42, 4, 182, 1, 117, 172, 42, 180, 1, 108, 27, 164, 0, 9, 42, 5]
abbrev dktX4_aNumber_0 : List UInt8 := dkwX4_aNumber_0 ++ dktX4_aNumber_1
theorem dksX4_aNumber_0 : cX4_aNumber.data.toList.drop 0 = dktX4_aNumber_0 := by decide +kernel
theorem dksX4_aNumber_1 : cX4_aNumber.data.toList.drop 24 = dktX4_aNumber_1 := dk_seg dksX4_aNumber_0 24 rfl rfl
theorem dX4_aNumber_0 : decode cX4_aNumber 0 = .ok (.aload_n 0, 1) := dk_42 (dk_at dksX4_aNumber_0 0 rfl rfl)
theorem dX4_aNumber_1 : decode cX4_aNumber 1 = .ok (.getfield 351, 3) := dk_180 1 95 (dk_at dksX4_aNumber_0 1 rfl rfl)
theorem dX4_aNumber_4 : decode cX4_aNumber 4 = .ok (.iconst 2, 1) := dk_5 (dk_at dksX4_aNumber_0 4 rfl rfl)
theorem dX4_aNumber_5 : decode cX4_aNumber 5 = .ok (.if_icmp .eq 9, 3) := dk_159 0 9 (dk_at dksX4_aNumber_0 5 rfl rfl)
theorem dX4_aNumber_8 : decode cX4_aNumber 8 = .ok (.aload_n 0, 1) := dk_42 (dk_at dksX4_aNumber_0 8 rfl rfl)
theorem dX4_aNumber_9 : decode cX4_aNumber 9 = .ok (.iconst 1, 1) := dk_4 (dk_at dksX4_aNumber_0 9 rfl rfl)
theorem dX4_aNumber_10 : decode cX4_aNumber 10 = .ok (.invokevirtual 373, 3) := dk_182 1 117 (dk_at dksX4_aNumber_0 10 rfl rfl)
theorem dX4_aNumber_13 : decode cX4_aNumber 13 = .ok (.ireturn, 1) := dk_172 (dk_at dksX4_aNumber_0 13 rfl rfl)
theorem dX4_aNumber_14 : decode cX4_aNumber 14 = .ok (.aload_n 0, 1) := dk_42 (dk_at dksX4_aNumber_0 14 rfl rfl)
theorem dX4_aNumber_15 : decode cX4_aNumber 15 = .ok (.getfield 364, 3) := dk_180 1 108 (dk_at dksX4_aNumber_0 15 rfl rfl)
theorem dX4_aNumber_18 : decode cX4_aNumber 18 = .ok (.iload_n 1, 1) := dk_27 (dk_at dksX4_aNumber_0 18 rfl rfl)
theorem dX4_aNumber_19 : decode cX4_aNumber 19 = .ok (.if_icmp .le 9, 3) := dk_164 0 9 (dk_at dksX4_aNumber_0 19 rfl rfl)
theorem dX4_aNumber_22 : decode cX4_aNumber 22 = .ok (.aload_n 0, 1) := dk_42 (dk_at dksX4_aNumber_0 22 rfl rfl)
theorem dX4_aNumber_23 : decode cX4_aNumber 23 = .ok (.iconst 2, 1) := dk_5 (dk_at dksX4_aNumber_0 23 rfl rfl)
theorem dX4_aNumber_24 : decode cX4_aNumber 24 = .ok (.invokevirtual 373, 3) := dk_182 1 117 (dk_at dksX4_aNumber_1 0 rfl rfl)
theorem dX4_aNumber_27 : decode cX4_aNumber 27 = .ok (.ireturn, 1) := dk_172 (dk_at dksX4_aNumber_1 3 rfl rfl)
theorem dX4_aNumber_28 : decode cX4_aNumber 28 = .ok (.aload_n 0, 1) := dk_42 (dk_at dksX4_aNumber_1 4 rfl rfl)
theorem dX4_aNumber_29 : decode cX4_aNumber 29 = .ok (.getfield 93, 3) := dk_180 0 93 (dk_at dksX4_aNumber_1 5 rfl rfl)
theorem dX4_aNumber_32 : decode cX4_aNumber 32 = .ok (.aload_n 0, 1) := dk_42 (dk_at dksX4_aNumber_1 8 rfl rfl)
theorem dX4_aNumber_33 : decode cX4_aNumber 33 = .ok (.getfield 411, 3) := dk_180 1 155 (dk_at dksX4_aNumber_1 9 rfl rfl)
theorem dX4_aNumber_36 : decode cX4_aNumber 36 = .ok (.aload_n 0, 1) := dk_42 (dk_at dksX4_aNumber_1 12 rfl rfl)
theorem dX4_aNumber_37 : decode cX4_aNumber 37 = .ok (.getfield 364, 3) := dk_180 1 108 (dk_at dksX4_aNumber_1 13 rfl rfl)
theorem dX4_aNumber_40 : decode cX4_aNumber 40 = .ok (.iastore, 1) := dk_79 (dk_at dksX4_aNumber_1 16 rfl rfl)
theorem dX4_aNumber_41 : decode cX4_aNumber 41 = .ok (.aload_n 0, 1) := dk_42 (dk_at dksX4_aNumber_1 17 rfl rfl)
theorem dX4_aNumber_42 : decode cX4_aNumber 42 = .ok (.invokevirtual 376, 3) := dk_182 1 120 (dk_at dksX4_aNumber_1 18 rfl rfl)
theorem dX4_aNumber_45 : decode cX4_aNumber 45 = .ok (.iconst 1, 1) := dk_4 (dk_at dksX4_aNumber_1 21 rfl rfl)
theorem dX4_aNumber_46 : decode cX4_aNumber 46 = .ok (.ireturn, 1) := dk_172 (dk_at dksX4_aNumber_1 22 rfl rfl)
abbrev cX4_takes : ByteArray := prog_23_method_42_code
def yX4_takes : MethodName := ⟨RX4, "takes", "(I)V"⟩
def dkwX4_takes_10 : List UInt8 := [180, 0, 96, 28, 46, 79, 132, 2, 1, 167, 255, 225, 177]
abbrev dktX4_takes_10 : List UInt8 := dkwX4_takes_10 ++ []
def dkwX4_takes_9 : List UInt8 := [3, 61, 28, 5, 42, 180, 1, 123, 104, 162, 0, 27, 42, 180, 0, 78, 17, 4, 196, 27, 104, 28, 96, 42]
abbrev dktX4_takes_9 : List UInt8 := dkwX4_takes_9 ++ dktX4_takes_10
def dkwX4_takes_8 : List UInt8 := [132, 2, 1, 167, 255, 117, 42, 180, 0, 72, 16, 21, 27, 104, 42, 180, 1, 155, 96, 42, 180, 1, 123, 79]
abbrev dktX4_takes_8 : List UInt8 := dkwX4_takes_8 ++ dktX4_takes_9
def dkwX4_takes_7 : List UInt8 := [180, 0, 81, 28, 46, 16, 7, 160, 0, 15, 42, 180, 0, 63, 27, 42, 180, 0, 93, 28, 46, 79]
abbrev dktX4_takes_7 : List UInt8 := dkwX4_takes_7 ++ dktX4_takes_8
def dkwX4_takes_6 : List UInt8 := [42, 180, 0, 81, 28, 46, 16, 6, 160, 0, 15, 42, 180, 0, 60, 27, 42, 180, 0, 93, 28, 46, 79, 42]
abbrev dktX4_takes_6 : List UInt8 := dkwX4_takes_6 ++ dktX4_takes_7
def dkwX4_takes_5 : List UInt8 := [160, 0, 24, 42, 180, 0, 66, 7, 27, 104, 42, 180, 0, 90, 28, 46, 96, 42, 180, 0, 93, 28, 46, 79]
abbrev dktX4_takes_5 : List UInt8 := dkwX4_takes_5 ++ dktX4_takes_6
def dkwX4_takes_4 : List UInt8 := [180, 0, 75, 16, 20, 27, 104, 28, 96, 42, 180, 0, 87, 28, 46, 79, 42, 180, 0, 81, 28, 46, 8]
abbrev dktX4_takes_4 : List UInt8 := dkwX4_takes_4 ++ dktX4_takes_5
def dkwX4_takes_3 : List UInt8 := [180, 0, 81, 28, 46, 79, 42, 180, 0, 72, 16, 21, 27, 104, 28, 96, 42, 180, 0, 84, 28, 46, 79, 42]
abbrev dktX4_takes_3 : List UInt8 := dkwX4_takes_3 ++ dktX4_takes_4
def dkwX4_takes_2 : List UInt8 := [167, 255, 237, 3, 61, 28, 42, 180, 1, 155, 162, 0, 137, 42, 180, 0, 69, 16, 20, 27, 104, 28, 96, 42]
abbrev dktX4_takes_2 : List UInt8 := dkwX4_takes_2 ++ dktX4_takes_3
def dkwX4_takes_1 : List UInt8 := [79, 3, 61, 28, 7, 162, 0, 20, 42, 180, 0, 66, 7, 27, 104, 28, 96, 3, 79, 132, 2, 1]
abbrev dktX4_takes_1 : List UInt8 := dkwX4_takes_1 ++ dktX4_takes_2
def dkwX4_takes_0 : List UInt8 := [42, 180, 0, 57, 27, 42, 180, 1, 155, 79, 42, 180, 0, 60, 27, 3, 79, 42, 180, 0, 63, 27, 16, 20]
abbrev dktX4_takes_0 : List UInt8 := dkwX4_takes_0 ++ dktX4_takes_1
theorem dksX4_takes_0 : cX4_takes.data.toList.drop 0 = dktX4_takes_0 := by decide +kernel
theorem dksX4_takes_1 : cX4_takes.data.toList.drop 24 = dktX4_takes_1 := dk_seg dksX4_takes_0 24 rfl rfl
theorem dksX4_takes_2 : cX4_takes.data.toList.drop 46 = dktX4_takes_2 := dk_seg dksX4_takes_1 22 rfl rfl
theorem dksX4_takes_3 : cX4_takes.data.toList.drop 70 = dktX4_takes_3 := dk_seg dksX4_takes_2 24 rfl rfl
theorem dksX4_takes_4 : cX4_takes.data.toList.drop 94 = dktX4_takes_4 := dk_seg dksX4_takes_3 24 rfl rfl
theorem dksX4_takes_5 : cX4_takes.data.toList.drop 117 = dktX4_takes_5 := dk_seg dksX4_takes_4 23 rfl rfl
theorem dksX4_takes_6 : cX4_takes.data.toList.drop 141 = dktX4_takes_6 := dk_seg dksX4_takes_5 24 rfl rfl
theorem dksX4_takes_7 : cX4_takes.data.toList.drop 165 = dktX4_takes_7 := dk_seg dksX4_takes_6 24 rfl rfl
theorem dksX4_takes_8 : cX4_takes.data.toList.drop 187 = dktX4_takes_8 := dk_seg dksX4_takes_7 22 rfl rfl
theorem dksX4_takes_9 : cX4_takes.data.toList.drop 211 = dktX4_takes_9 := dk_seg dksX4_takes_8 24 rfl rfl
theorem dksX4_takes_10 : cX4_takes.data.toList.drop 235 = dktX4_takes_10 := dk_seg dksX4_takes_9 24 rfl rfl
theorem dX4_takes_0 : decode cX4_takes 0 = .ok (.aload_n 0, 1) := dk_42 (dk_at dksX4_takes_0 0 rfl rfl)
theorem dX4_takes_1 : decode cX4_takes 1 = .ok (.getfield 57, 3) := dk_180 0 57 (dk_at dksX4_takes_0 1 rfl rfl)
theorem dX4_takes_4 : decode cX4_takes 4 = .ok (.iload_n 1, 1) := dk_27 (dk_at dksX4_takes_0 4 rfl rfl)
theorem dX4_takes_5 : decode cX4_takes 5 = .ok (.aload_n 0, 1) := dk_42 (dk_at dksX4_takes_0 5 rfl rfl)
theorem dX4_takes_6 : decode cX4_takes 6 = .ok (.getfield 411, 3) := dk_180 1 155 (dk_at dksX4_takes_0 6 rfl rfl)
theorem dX4_takes_9 : decode cX4_takes 9 = .ok (.iastore, 1) := dk_79 (dk_at dksX4_takes_0 9 rfl rfl)
theorem dX4_takes_10 : decode cX4_takes 10 = .ok (.aload_n 0, 1) := dk_42 (dk_at dksX4_takes_0 10 rfl rfl)
theorem dX4_takes_11 : decode cX4_takes 11 = .ok (.getfield 60, 3) := dk_180 0 60 (dk_at dksX4_takes_0 11 rfl rfl)
theorem dX4_takes_14 : decode cX4_takes 14 = .ok (.iload_n 1, 1) := dk_27 (dk_at dksX4_takes_0 14 rfl rfl)
theorem dX4_takes_15 : decode cX4_takes 15 = .ok (.iconst 0, 1) := dk_3 (dk_at dksX4_takes_0 15 rfl rfl)
theorem dX4_takes_16 : decode cX4_takes 16 = .ok (.iastore, 1) := dk_79 (dk_at dksX4_takes_0 16 rfl rfl)
theorem dX4_takes_17 : decode cX4_takes 17 = .ok (.aload_n 0, 1) := dk_42 (dk_at dksX4_takes_0 17 rfl rfl)
theorem dX4_takes_18 : decode cX4_takes 18 = .ok (.getfield 63, 3) := dk_180 0 63 (dk_at dksX4_takes_0 18 rfl rfl)
theorem dX4_takes_21 : decode cX4_takes 21 = .ok (.iload_n 1, 1) := dk_27 (dk_at dksX4_takes_0 21 rfl rfl)
theorem dX4_takes_22 : decode cX4_takes 22 = .ok (.bipush 20, 2) := dk_16 20 (dk_at dksX4_takes_0 22 rfl rfl)
theorem dX4_takes_24 : decode cX4_takes 24 = .ok (.iastore, 1) := dk_79 (dk_at dksX4_takes_1 0 rfl rfl)
theorem dX4_takes_25 : decode cX4_takes 25 = .ok (.iconst 0, 1) := dk_3 (dk_at dksX4_takes_1 1 rfl rfl)
theorem dX4_takes_26 : decode cX4_takes 26 = .ok (.istore_n 2, 1) := dk_61 (dk_at dksX4_takes_1 2 rfl rfl)
theorem dX4_takes_27 : decode cX4_takes 27 = .ok (.iload_n 2, 1) := dk_28 (dk_at dksX4_takes_1 3 rfl rfl)
theorem dX4_takes_28 : decode cX4_takes 28 = .ok (.iconst 4, 1) := dk_7 (dk_at dksX4_takes_1 4 rfl rfl)
theorem dX4_takes_29 : decode cX4_takes 29 = .ok (.if_icmp .ge 20, 3) := dk_162 0 20 (dk_at dksX4_takes_1 5 rfl rfl)
theorem dX4_takes_32 : decode cX4_takes 32 = .ok (.aload_n 0, 1) := dk_42 (dk_at dksX4_takes_1 8 rfl rfl)
theorem dX4_takes_33 : decode cX4_takes 33 = .ok (.getfield 66, 3) := dk_180 0 66 (dk_at dksX4_takes_1 9 rfl rfl)
theorem dX4_takes_36 : decode cX4_takes 36 = .ok (.iconst 4, 1) := dk_7 (dk_at dksX4_takes_1 12 rfl rfl)
theorem dX4_takes_37 : decode cX4_takes 37 = .ok (.iload_n 1, 1) := dk_27 (dk_at dksX4_takes_1 13 rfl rfl)
theorem dX4_takes_38 : decode cX4_takes 38 = .ok (.imul, 1) := dk_104 (dk_at dksX4_takes_1 14 rfl rfl)
theorem dX4_takes_39 : decode cX4_takes 39 = .ok (.iload_n 2, 1) := dk_28 (dk_at dksX4_takes_1 15 rfl rfl)
theorem dX4_takes_40 : decode cX4_takes 40 = .ok (.iadd, 1) := dk_96 (dk_at dksX4_takes_1 16 rfl rfl)
theorem dX4_takes_41 : decode cX4_takes 41 = .ok (.iconst 0, 1) := dk_3 (dk_at dksX4_takes_1 17 rfl rfl)
theorem dX4_takes_42 : decode cX4_takes 42 = .ok (.iastore, 1) := dk_79 (dk_at dksX4_takes_1 18 rfl rfl)
theorem dX4_takes_43 : decode cX4_takes 43 = .ok (.iinc 2 1, 3) := dk_132 2 1 (dk_at dksX4_takes_1 19 rfl rfl)
theorem dX4_takes_46 : decode cX4_takes 46 = .ok (.goto (-19), 3) := dk_167 255 237 (dk_at dksX4_takes_2 0 rfl rfl)
theorem dX4_takes_49 : decode cX4_takes 49 = .ok (.iconst 0, 1) := dk_3 (dk_at dksX4_takes_2 3 rfl rfl)
theorem dX4_takes_50 : decode cX4_takes 50 = .ok (.istore_n 2, 1) := dk_61 (dk_at dksX4_takes_2 4 rfl rfl)
theorem dX4_takes_51 : decode cX4_takes 51 = .ok (.iload_n 2, 1) := dk_28 (dk_at dksX4_takes_2 5 rfl rfl)
theorem dX4_takes_52 : decode cX4_takes 52 = .ok (.aload_n 0, 1) := dk_42 (dk_at dksX4_takes_2 6 rfl rfl)
theorem dX4_takes_53 : decode cX4_takes 53 = .ok (.getfield 411, 3) := dk_180 1 155 (dk_at dksX4_takes_2 7 rfl rfl)
theorem dX4_takes_56 : decode cX4_takes 56 = .ok (.if_icmp .ge 137, 3) := dk_162 0 137 (dk_at dksX4_takes_2 10 rfl rfl)
theorem dX4_takes_59 : decode cX4_takes 59 = .ok (.aload_n 0, 1) := dk_42 (dk_at dksX4_takes_2 13 rfl rfl)
theorem dX4_takes_60 : decode cX4_takes 60 = .ok (.getfield 69, 3) := dk_180 0 69 (dk_at dksX4_takes_2 14 rfl rfl)
theorem dX4_takes_63 : decode cX4_takes 63 = .ok (.bipush 20, 2) := dk_16 20 (dk_at dksX4_takes_2 17 rfl rfl)
theorem dX4_takes_65 : decode cX4_takes 65 = .ok (.iload_n 1, 1) := dk_27 (dk_at dksX4_takes_2 19 rfl rfl)
theorem dX4_takes_66 : decode cX4_takes 66 = .ok (.imul, 1) := dk_104 (dk_at dksX4_takes_2 20 rfl rfl)
theorem dX4_takes_67 : decode cX4_takes 67 = .ok (.iload_n 2, 1) := dk_28 (dk_at dksX4_takes_2 21 rfl rfl)
theorem dX4_takes_68 : decode cX4_takes 68 = .ok (.iadd, 1) := dk_96 (dk_at dksX4_takes_2 22 rfl rfl)
theorem dX4_takes_69 : decode cX4_takes 69 = .ok (.aload_n 0, 1) := dk_42 (dk_at dksX4_takes_2 23 rfl rfl)
theorem dX4_takes_70 : decode cX4_takes 70 = .ok (.getfield 81, 3) := dk_180 0 81 (dk_at dksX4_takes_3 0 rfl rfl)
theorem dX4_takes_73 : decode cX4_takes 73 = .ok (.iload_n 2, 1) := dk_28 (dk_at dksX4_takes_3 3 rfl rfl)
theorem dX4_takes_74 : decode cX4_takes 74 = .ok (.iaload, 1) := dk_46 (dk_at dksX4_takes_3 4 rfl rfl)
theorem dX4_takes_75 : decode cX4_takes 75 = .ok (.iastore, 1) := dk_79 (dk_at dksX4_takes_3 5 rfl rfl)
theorem dX4_takes_76 : decode cX4_takes 76 = .ok (.aload_n 0, 1) := dk_42 (dk_at dksX4_takes_3 6 rfl rfl)
theorem dX4_takes_77 : decode cX4_takes 77 = .ok (.getfield 72, 3) := dk_180 0 72 (dk_at dksX4_takes_3 7 rfl rfl)
theorem dX4_takes_80 : decode cX4_takes 80 = .ok (.bipush 21, 2) := dk_16 21 (dk_at dksX4_takes_3 10 rfl rfl)
theorem dX4_takes_82 : decode cX4_takes 82 = .ok (.iload_n 1, 1) := dk_27 (dk_at dksX4_takes_3 12 rfl rfl)
theorem dX4_takes_83 : decode cX4_takes 83 = .ok (.imul, 1) := dk_104 (dk_at dksX4_takes_3 13 rfl rfl)
theorem dX4_takes_84 : decode cX4_takes 84 = .ok (.iload_n 2, 1) := dk_28 (dk_at dksX4_takes_3 14 rfl rfl)
theorem dX4_takes_85 : decode cX4_takes 85 = .ok (.iadd, 1) := dk_96 (dk_at dksX4_takes_3 15 rfl rfl)
theorem dX4_takes_86 : decode cX4_takes 86 = .ok (.aload_n 0, 1) := dk_42 (dk_at dksX4_takes_3 16 rfl rfl)
theorem dX4_takes_87 : decode cX4_takes 87 = .ok (.getfield 84, 3) := dk_180 0 84 (dk_at dksX4_takes_3 17 rfl rfl)
theorem dX4_takes_90 : decode cX4_takes 90 = .ok (.iload_n 2, 1) := dk_28 (dk_at dksX4_takes_3 20 rfl rfl)
theorem dX4_takes_91 : decode cX4_takes 91 = .ok (.iaload, 1) := dk_46 (dk_at dksX4_takes_3 21 rfl rfl)
theorem dX4_takes_92 : decode cX4_takes 92 = .ok (.iastore, 1) := dk_79 (dk_at dksX4_takes_3 22 rfl rfl)
theorem dX4_takes_93 : decode cX4_takes 93 = .ok (.aload_n 0, 1) := dk_42 (dk_at dksX4_takes_3 23 rfl rfl)
theorem dX4_takes_94 : decode cX4_takes 94 = .ok (.getfield 75, 3) := dk_180 0 75 (dk_at dksX4_takes_4 0 rfl rfl)
theorem dX4_takes_97 : decode cX4_takes 97 = .ok (.bipush 20, 2) := dk_16 20 (dk_at dksX4_takes_4 3 rfl rfl)
theorem dX4_takes_99 : decode cX4_takes 99 = .ok (.iload_n 1, 1) := dk_27 (dk_at dksX4_takes_4 5 rfl rfl)
theorem dX4_takes_100 : decode cX4_takes 100 = .ok (.imul, 1) := dk_104 (dk_at dksX4_takes_4 6 rfl rfl)
theorem dX4_takes_101 : decode cX4_takes 101 = .ok (.iload_n 2, 1) := dk_28 (dk_at dksX4_takes_4 7 rfl rfl)
theorem dX4_takes_102 : decode cX4_takes 102 = .ok (.iadd, 1) := dk_96 (dk_at dksX4_takes_4 8 rfl rfl)
theorem dX4_takes_103 : decode cX4_takes 103 = .ok (.aload_n 0, 1) := dk_42 (dk_at dksX4_takes_4 9 rfl rfl)
theorem dX4_takes_104 : decode cX4_takes 104 = .ok (.getfield 87, 3) := dk_180 0 87 (dk_at dksX4_takes_4 10 rfl rfl)
theorem dX4_takes_107 : decode cX4_takes 107 = .ok (.iload_n 2, 1) := dk_28 (dk_at dksX4_takes_4 13 rfl rfl)
theorem dX4_takes_108 : decode cX4_takes 108 = .ok (.iaload, 1) := dk_46 (dk_at dksX4_takes_4 14 rfl rfl)
theorem dX4_takes_109 : decode cX4_takes 109 = .ok (.iastore, 1) := dk_79 (dk_at dksX4_takes_4 15 rfl rfl)
theorem dX4_takes_110 : decode cX4_takes 110 = .ok (.aload_n 0, 1) := dk_42 (dk_at dksX4_takes_4 16 rfl rfl)
theorem dX4_takes_111 : decode cX4_takes 111 = .ok (.getfield 81, 3) := dk_180 0 81 (dk_at dksX4_takes_4 17 rfl rfl)
theorem dX4_takes_114 : decode cX4_takes 114 = .ok (.iload_n 2, 1) := dk_28 (dk_at dksX4_takes_4 20 rfl rfl)
theorem dX4_takes_115 : decode cX4_takes 115 = .ok (.iaload, 1) := dk_46 (dk_at dksX4_takes_4 21 rfl rfl)
theorem dX4_takes_116 : decode cX4_takes 116 = .ok (.iconst 5, 1) := dk_8 (dk_at dksX4_takes_4 22 rfl rfl)
theorem dX4_takes_117 : decode cX4_takes 117 = .ok (.if_icmp .ne 24, 3) := dk_160 0 24 (dk_at dksX4_takes_5 0 rfl rfl)
theorem dX4_takes_120 : decode cX4_takes 120 = .ok (.aload_n 0, 1) := dk_42 (dk_at dksX4_takes_5 3 rfl rfl)
theorem dX4_takes_121 : decode cX4_takes 121 = .ok (.getfield 66, 3) := dk_180 0 66 (dk_at dksX4_takes_5 4 rfl rfl)
theorem dX4_takes_124 : decode cX4_takes 124 = .ok (.iconst 4, 1) := dk_7 (dk_at dksX4_takes_5 7 rfl rfl)
theorem dX4_takes_125 : decode cX4_takes 125 = .ok (.iload_n 1, 1) := dk_27 (dk_at dksX4_takes_5 8 rfl rfl)
theorem dX4_takes_126 : decode cX4_takes 126 = .ok (.imul, 1) := dk_104 (dk_at dksX4_takes_5 9 rfl rfl)
theorem dX4_takes_127 : decode cX4_takes 127 = .ok (.aload_n 0, 1) := dk_42 (dk_at dksX4_takes_5 10 rfl rfl)
theorem dX4_takes_128 : decode cX4_takes 128 = .ok (.getfield 90, 3) := dk_180 0 90 (dk_at dksX4_takes_5 11 rfl rfl)
theorem dX4_takes_131 : decode cX4_takes 131 = .ok (.iload_n 2, 1) := dk_28 (dk_at dksX4_takes_5 14 rfl rfl)
theorem dX4_takes_132 : decode cX4_takes 132 = .ok (.iaload, 1) := dk_46 (dk_at dksX4_takes_5 15 rfl rfl)
theorem dX4_takes_133 : decode cX4_takes 133 = .ok (.iadd, 1) := dk_96 (dk_at dksX4_takes_5 16 rfl rfl)
theorem dX4_takes_134 : decode cX4_takes 134 = .ok (.aload_n 0, 1) := dk_42 (dk_at dksX4_takes_5 17 rfl rfl)
theorem dX4_takes_135 : decode cX4_takes 135 = .ok (.getfield 93, 3) := dk_180 0 93 (dk_at dksX4_takes_5 18 rfl rfl)
theorem dX4_takes_138 : decode cX4_takes 138 = .ok (.iload_n 2, 1) := dk_28 (dk_at dksX4_takes_5 21 rfl rfl)
theorem dX4_takes_139 : decode cX4_takes 139 = .ok (.iaload, 1) := dk_46 (dk_at dksX4_takes_5 22 rfl rfl)
theorem dX4_takes_140 : decode cX4_takes 140 = .ok (.iastore, 1) := dk_79 (dk_at dksX4_takes_5 23 rfl rfl)
theorem dX4_takes_141 : decode cX4_takes 141 = .ok (.aload_n 0, 1) := dk_42 (dk_at dksX4_takes_6 0 rfl rfl)
theorem dX4_takes_142 : decode cX4_takes 142 = .ok (.getfield 81, 3) := dk_180 0 81 (dk_at dksX4_takes_6 1 rfl rfl)
theorem dX4_takes_145 : decode cX4_takes 145 = .ok (.iload_n 2, 1) := dk_28 (dk_at dksX4_takes_6 4 rfl rfl)
theorem dX4_takes_146 : decode cX4_takes 146 = .ok (.iaload, 1) := dk_46 (dk_at dksX4_takes_6 5 rfl rfl)
theorem dX4_takes_147 : decode cX4_takes 147 = .ok (.bipush 6, 2) := dk_16 6 (dk_at dksX4_takes_6 6 rfl rfl)
theorem dX4_takes_149 : decode cX4_takes 149 = .ok (.if_icmp .ne 15, 3) := dk_160 0 15 (dk_at dksX4_takes_6 8 rfl rfl)
theorem dX4_takes_152 : decode cX4_takes 152 = .ok (.aload_n 0, 1) := dk_42 (dk_at dksX4_takes_6 11 rfl rfl)
theorem dX4_takes_153 : decode cX4_takes 153 = .ok (.getfield 60, 3) := dk_180 0 60 (dk_at dksX4_takes_6 12 rfl rfl)
theorem dX4_takes_156 : decode cX4_takes 156 = .ok (.iload_n 1, 1) := dk_27 (dk_at dksX4_takes_6 15 rfl rfl)
theorem dX4_takes_157 : decode cX4_takes 157 = .ok (.aload_n 0, 1) := dk_42 (dk_at dksX4_takes_6 16 rfl rfl)
theorem dX4_takes_158 : decode cX4_takes 158 = .ok (.getfield 93, 3) := dk_180 0 93 (dk_at dksX4_takes_6 17 rfl rfl)
theorem dX4_takes_161 : decode cX4_takes 161 = .ok (.iload_n 2, 1) := dk_28 (dk_at dksX4_takes_6 20 rfl rfl)
theorem dX4_takes_162 : decode cX4_takes 162 = .ok (.iaload, 1) := dk_46 (dk_at dksX4_takes_6 21 rfl rfl)
theorem dX4_takes_163 : decode cX4_takes 163 = .ok (.iastore, 1) := dk_79 (dk_at dksX4_takes_6 22 rfl rfl)
theorem dX4_takes_164 : decode cX4_takes 164 = .ok (.aload_n 0, 1) := dk_42 (dk_at dksX4_takes_6 23 rfl rfl)
theorem dX4_takes_165 : decode cX4_takes 165 = .ok (.getfield 81, 3) := dk_180 0 81 (dk_at dksX4_takes_7 0 rfl rfl)
theorem dX4_takes_168 : decode cX4_takes 168 = .ok (.iload_n 2, 1) := dk_28 (dk_at dksX4_takes_7 3 rfl rfl)
theorem dX4_takes_169 : decode cX4_takes 169 = .ok (.iaload, 1) := dk_46 (dk_at dksX4_takes_7 4 rfl rfl)
theorem dX4_takes_170 : decode cX4_takes 170 = .ok (.bipush 7, 2) := dk_16 7 (dk_at dksX4_takes_7 5 rfl rfl)
theorem dX4_takes_172 : decode cX4_takes 172 = .ok (.if_icmp .ne 15, 3) := dk_160 0 15 (dk_at dksX4_takes_7 7 rfl rfl)
theorem dX4_takes_175 : decode cX4_takes 175 = .ok (.aload_n 0, 1) := dk_42 (dk_at dksX4_takes_7 10 rfl rfl)
theorem dX4_takes_176 : decode cX4_takes 176 = .ok (.getfield 63, 3) := dk_180 0 63 (dk_at dksX4_takes_7 11 rfl rfl)
theorem dX4_takes_179 : decode cX4_takes 179 = .ok (.iload_n 1, 1) := dk_27 (dk_at dksX4_takes_7 14 rfl rfl)
theorem dX4_takes_180 : decode cX4_takes 180 = .ok (.aload_n 0, 1) := dk_42 (dk_at dksX4_takes_7 15 rfl rfl)
theorem dX4_takes_181 : decode cX4_takes 181 = .ok (.getfield 93, 3) := dk_180 0 93 (dk_at dksX4_takes_7 16 rfl rfl)
theorem dX4_takes_184 : decode cX4_takes 184 = .ok (.iload_n 2, 1) := dk_28 (dk_at dksX4_takes_7 19 rfl rfl)
theorem dX4_takes_185 : decode cX4_takes 185 = .ok (.iaload, 1) := dk_46 (dk_at dksX4_takes_7 20 rfl rfl)
theorem dX4_takes_186 : decode cX4_takes 186 = .ok (.iastore, 1) := dk_79 (dk_at dksX4_takes_7 21 rfl rfl)
theorem dX4_takes_187 : decode cX4_takes 187 = .ok (.iinc 2 1, 3) := dk_132 2 1 (dk_at dksX4_takes_8 0 rfl rfl)
theorem dX4_takes_190 : decode cX4_takes 190 = .ok (.goto (-139), 3) := dk_167 255 117 (dk_at dksX4_takes_8 3 rfl rfl)
theorem dX4_takes_193 : decode cX4_takes 193 = .ok (.aload_n 0, 1) := dk_42 (dk_at dksX4_takes_8 6 rfl rfl)
theorem dX4_takes_194 : decode cX4_takes 194 = .ok (.getfield 72, 3) := dk_180 0 72 (dk_at dksX4_takes_8 7 rfl rfl)
theorem dX4_takes_197 : decode cX4_takes 197 = .ok (.bipush 21, 2) := dk_16 21 (dk_at dksX4_takes_8 10 rfl rfl)
theorem dX4_takes_199 : decode cX4_takes 199 = .ok (.iload_n 1, 1) := dk_27 (dk_at dksX4_takes_8 12 rfl rfl)
theorem dX4_takes_200 : decode cX4_takes 200 = .ok (.imul, 1) := dk_104 (dk_at dksX4_takes_8 13 rfl rfl)
theorem dX4_takes_201 : decode cX4_takes 201 = .ok (.aload_n 0, 1) := dk_42 (dk_at dksX4_takes_8 14 rfl rfl)
theorem dX4_takes_202 : decode cX4_takes 202 = .ok (.getfield 411, 3) := dk_180 1 155 (dk_at dksX4_takes_8 15 rfl rfl)
theorem dX4_takes_205 : decode cX4_takes 205 = .ok (.iadd, 1) := dk_96 (dk_at dksX4_takes_8 18 rfl rfl)
theorem dX4_takes_206 : decode cX4_takes 206 = .ok (.aload_n 0, 1) := dk_42 (dk_at dksX4_takes_8 19 rfl rfl)
theorem dX4_takes_207 : decode cX4_takes 207 = .ok (.getfield 379, 3) := dk_180 1 123 (dk_at dksX4_takes_8 20 rfl rfl)
theorem dX4_takes_210 : decode cX4_takes 210 = .ok (.iastore, 1) := dk_79 (dk_at dksX4_takes_8 23 rfl rfl)
theorem dX4_takes_211 : decode cX4_takes 211 = .ok (.iconst 0, 1) := dk_3 (dk_at dksX4_takes_9 0 rfl rfl)
theorem dX4_takes_212 : decode cX4_takes 212 = .ok (.istore_n 2, 1) := dk_61 (dk_at dksX4_takes_9 1 rfl rfl)
theorem dX4_takes_213 : decode cX4_takes 213 = .ok (.iload_n 2, 1) := dk_28 (dk_at dksX4_takes_9 2 rfl rfl)
theorem dX4_takes_214 : decode cX4_takes 214 = .ok (.iconst 2, 1) := dk_5 (dk_at dksX4_takes_9 3 rfl rfl)
theorem dX4_takes_215 : decode cX4_takes 215 = .ok (.aload_n 0, 1) := dk_42 (dk_at dksX4_takes_9 4 rfl rfl)
theorem dX4_takes_216 : decode cX4_takes 216 = .ok (.getfield 379, 3) := dk_180 1 123 (dk_at dksX4_takes_9 5 rfl rfl)
theorem dX4_takes_219 : decode cX4_takes 219 = .ok (.imul, 1) := dk_104 (dk_at dksX4_takes_9 8 rfl rfl)
theorem dX4_takes_220 : decode cX4_takes 220 = .ok (.if_icmp .ge 27, 3) := dk_162 0 27 (dk_at dksX4_takes_9 9 rfl rfl)
theorem dX4_takes_223 : decode cX4_takes 223 = .ok (.aload_n 0, 1) := dk_42 (dk_at dksX4_takes_9 12 rfl rfl)
theorem dX4_takes_224 : decode cX4_takes 224 = .ok (.getfield 78, 3) := dk_180 0 78 (dk_at dksX4_takes_9 13 rfl rfl)
theorem dX4_takes_227 : decode cX4_takes 227 = .ok (.sipush 1220, 3) := dk_17 4 196 (dk_at dksX4_takes_9 16 rfl rfl)
theorem dX4_takes_230 : decode cX4_takes 230 = .ok (.iload_n 1, 1) := dk_27 (dk_at dksX4_takes_9 19 rfl rfl)
theorem dX4_takes_231 : decode cX4_takes 231 = .ok (.imul, 1) := dk_104 (dk_at dksX4_takes_9 20 rfl rfl)
theorem dX4_takes_232 : decode cX4_takes 232 = .ok (.iload_n 2, 1) := dk_28 (dk_at dksX4_takes_9 21 rfl rfl)
theorem dX4_takes_233 : decode cX4_takes 233 = .ok (.iadd, 1) := dk_96 (dk_at dksX4_takes_9 22 rfl rfl)
theorem dX4_takes_234 : decode cX4_takes 234 = .ok (.aload_n 0, 1) := dk_42 (dk_at dksX4_takes_9 23 rfl rfl)
theorem dX4_takes_235 : decode cX4_takes 235 = .ok (.getfield 96, 3) := dk_180 0 96 (dk_at dksX4_takes_10 0 rfl rfl)
theorem dX4_takes_238 : decode cX4_takes 238 = .ok (.iload_n 2, 1) := dk_28 (dk_at dksX4_takes_10 3 rfl rfl)
theorem dX4_takes_239 : decode cX4_takes 239 = .ok (.iaload, 1) := dk_46 (dk_at dksX4_takes_10 4 rfl rfl)
theorem dX4_takes_240 : decode cX4_takes 240 = .ok (.iastore, 1) := dk_79 (dk_at dksX4_takes_10 5 rfl rfl)
theorem dX4_takes_241 : decode cX4_takes 241 = .ok (.iinc 2 1, 3) := dk_132 2 1 (dk_at dksX4_takes_10 6 rfl rfl)
theorem dX4_takes_244 : decode cX4_takes 244 = .ok (.goto (-31), 3) := dk_167 255 225 (dk_at dksX4_takes_10 9 rfl rfl)
theorem dX4_takes_247 : decode cX4_takes 247 = .ok (.return_, 1) := dk_177 (dk_at dksX4_takes_10 12 rfl rfl)
abbrev cX4_fault : ByteArray := prog_23_method_43_code
def yX4_fault : MethodName := ⟨RX4, "fault", "(I)I"⟩
def dkwX4_fault_1 : List UInt8 := [172]
abbrev dktX4_fault_1 : List UInt8 := dkwX4_fault_1 ++ []
def dkwX4_fault_0 : List UInt8 := [27, 154, 0, 10, 42, 180, 1, 170, 167, 0, 16, 27, 4, 160, 0, 10, 42, 180, 0, 105, 167, 0, 4, 2]
abbrev dktX4_fault_0 : List UInt8 := dkwX4_fault_0 ++ dktX4_fault_1
theorem dksX4_fault_0 : cX4_fault.data.toList.drop 0 = dktX4_fault_0 := by decide +kernel
theorem dksX4_fault_1 : cX4_fault.data.toList.drop 24 = dktX4_fault_1 := dk_seg dksX4_fault_0 24 rfl rfl
theorem dX4_fault_0 : decode cX4_fault 0 = .ok (.iload_n 1, 1) := dk_27 (dk_at dksX4_fault_0 0 rfl rfl)
theorem dX4_fault_1 : decode cX4_fault 1 = .ok (.ifCond .ne 10, 3) := dk_154 0 10 (dk_at dksX4_fault_0 1 rfl rfl)
theorem dX4_fault_4 : decode cX4_fault 4 = .ok (.aload_n 0, 1) := dk_42 (dk_at dksX4_fault_0 4 rfl rfl)
theorem dX4_fault_5 : decode cX4_fault 5 = .ok (.getfield 426, 3) := dk_180 1 170 (dk_at dksX4_fault_0 5 rfl rfl)
theorem dX4_fault_8 : decode cX4_fault 8 = .ok (.goto 16, 3) := dk_167 0 16 (dk_at dksX4_fault_0 8 rfl rfl)
theorem dX4_fault_11 : decode cX4_fault 11 = .ok (.iload_n 1, 1) := dk_27 (dk_at dksX4_fault_0 11 rfl rfl)
theorem dX4_fault_12 : decode cX4_fault 12 = .ok (.iconst 1, 1) := dk_4 (dk_at dksX4_fault_0 12 rfl rfl)
theorem dX4_fault_13 : decode cX4_fault 13 = .ok (.if_icmp .ne 10, 3) := dk_160 0 10 (dk_at dksX4_fault_0 13 rfl rfl)
theorem dX4_fault_16 : decode cX4_fault 16 = .ok (.aload_n 0, 1) := dk_42 (dk_at dksX4_fault_0 16 rfl rfl)
theorem dX4_fault_17 : decode cX4_fault 17 = .ok (.getfield 105, 3) := dk_180 0 105 (dk_at dksX4_fault_0 17 rfl rfl)
theorem dX4_fault_20 : decode cX4_fault 20 = .ok (.goto 4, 3) := dk_167 0 4 (dk_at dksX4_fault_0 20 rfl rfl)
theorem dX4_fault_23 : decode cX4_fault 23 = .ok (.iconst (-1), 1) := dk_2 (dk_at dksX4_fault_0 23 rfl rfl)
theorem dX4_fault_24 : decode cX4_fault 24 = .ok (.ireturn, 1) := dk_172 (dk_at dksX4_fault_1 0 rfl rfl)
abbrev cX4_ruled : ByteArray := prog_23_method_44_code
def yX4_ruled : MethodName := ⟨RX4, "ruled", "(II)I"⟩
def dkwX4_ruled_3 : List UInt8 := [100, 46, 167, 0, 4, 2, 172]
abbrev dktX4_ruled_3 : List UInt8 := dkwX4_ruled_3 ++ []
def dkwX4_ruled_2 : List UInt8 := [46, 167, 0, 29, 28, 6, 16, 6, 184, 0, 244, 153, 0, 18, 42, 180, 0, 66, 7, 27, 104, 28, 96, 6]
abbrev dktX4_ruled_2 : List UInt8 := dkwX4_ruled_2 ++ dktX4_ruled_3
def dkwX4_ruled_1 : List UInt8 := [28, 4, 160, 0, 12, 42, 180, 0, 60, 27, 46, 167, 0, 43, 28, 5, 160, 0, 12, 42, 180, 0, 63, 27]
abbrev dktX4_ruled_1 : List UInt8 := dkwX4_ruled_1 ++ dktX4_ruled_2
def dkwX4_ruled_0 : List UInt8 := [27, 3, 4, 184, 0, 244, 154, 0, 5, 2, 172, 28, 154, 0, 12, 42, 180, 0, 57, 27, 46, 167, 0, 57]
abbrev dktX4_ruled_0 : List UInt8 := dkwX4_ruled_0 ++ dktX4_ruled_1
theorem dksX4_ruled_0 : cX4_ruled.data.toList.drop 0 = dktX4_ruled_0 := by decide +kernel
theorem dksX4_ruled_1 : cX4_ruled.data.toList.drop 24 = dktX4_ruled_1 := dk_seg dksX4_ruled_0 24 rfl rfl
theorem dksX4_ruled_2 : cX4_ruled.data.toList.drop 48 = dktX4_ruled_2 := dk_seg dksX4_ruled_1 24 rfl rfl
theorem dksX4_ruled_3 : cX4_ruled.data.toList.drop 72 = dktX4_ruled_3 := dk_seg dksX4_ruled_2 24 rfl rfl
theorem dX4_ruled_0 : decode cX4_ruled 0 = .ok (.iload_n 1, 1) := dk_27 (dk_at dksX4_ruled_0 0 rfl rfl)
theorem dX4_ruled_1 : decode cX4_ruled 1 = .ok (.iconst 0, 1) := dk_3 (dk_at dksX4_ruled_0 1 rfl rfl)
theorem dX4_ruled_2 : decode cX4_ruled 2 = .ok (.iconst 1, 1) := dk_4 (dk_at dksX4_ruled_0 2 rfl rfl)
theorem dX4_ruled_3 : decode cX4_ruled 3 = .ok (.invokestatic 244, 3) := dk_184 0 244 (dk_at dksX4_ruled_0 3 rfl rfl)
theorem dX4_ruled_6 : decode cX4_ruled 6 = .ok (.ifCond .ne 5, 3) := dk_154 0 5 (dk_at dksX4_ruled_0 6 rfl rfl)
theorem dX4_ruled_9 : decode cX4_ruled 9 = .ok (.iconst (-1), 1) := dk_2 (dk_at dksX4_ruled_0 9 rfl rfl)
theorem dX4_ruled_10 : decode cX4_ruled 10 = .ok (.ireturn, 1) := dk_172 (dk_at dksX4_ruled_0 10 rfl rfl)
theorem dX4_ruled_11 : decode cX4_ruled 11 = .ok (.iload_n 2, 1) := dk_28 (dk_at dksX4_ruled_0 11 rfl rfl)
theorem dX4_ruled_12 : decode cX4_ruled 12 = .ok (.ifCond .ne 12, 3) := dk_154 0 12 (dk_at dksX4_ruled_0 12 rfl rfl)
theorem dX4_ruled_15 : decode cX4_ruled 15 = .ok (.aload_n 0, 1) := dk_42 (dk_at dksX4_ruled_0 15 rfl rfl)
theorem dX4_ruled_16 : decode cX4_ruled 16 = .ok (.getfield 57, 3) := dk_180 0 57 (dk_at dksX4_ruled_0 16 rfl rfl)
theorem dX4_ruled_19 : decode cX4_ruled 19 = .ok (.iload_n 1, 1) := dk_27 (dk_at dksX4_ruled_0 19 rfl rfl)
theorem dX4_ruled_20 : decode cX4_ruled 20 = .ok (.iaload, 1) := dk_46 (dk_at dksX4_ruled_0 20 rfl rfl)
theorem dX4_ruled_21 : decode cX4_ruled 21 = .ok (.goto 57, 3) := dk_167 0 57 (dk_at dksX4_ruled_0 21 rfl rfl)
theorem dX4_ruled_24 : decode cX4_ruled 24 = .ok (.iload_n 2, 1) := dk_28 (dk_at dksX4_ruled_1 0 rfl rfl)
theorem dX4_ruled_25 : decode cX4_ruled 25 = .ok (.iconst 1, 1) := dk_4 (dk_at dksX4_ruled_1 1 rfl rfl)
theorem dX4_ruled_26 : decode cX4_ruled 26 = .ok (.if_icmp .ne 12, 3) := dk_160 0 12 (dk_at dksX4_ruled_1 2 rfl rfl)
theorem dX4_ruled_29 : decode cX4_ruled 29 = .ok (.aload_n 0, 1) := dk_42 (dk_at dksX4_ruled_1 5 rfl rfl)
theorem dX4_ruled_30 : decode cX4_ruled 30 = .ok (.getfield 60, 3) := dk_180 0 60 (dk_at dksX4_ruled_1 6 rfl rfl)
theorem dX4_ruled_33 : decode cX4_ruled 33 = .ok (.iload_n 1, 1) := dk_27 (dk_at dksX4_ruled_1 9 rfl rfl)
theorem dX4_ruled_34 : decode cX4_ruled 34 = .ok (.iaload, 1) := dk_46 (dk_at dksX4_ruled_1 10 rfl rfl)
theorem dX4_ruled_35 : decode cX4_ruled 35 = .ok (.goto 43, 3) := dk_167 0 43 (dk_at dksX4_ruled_1 11 rfl rfl)
theorem dX4_ruled_38 : decode cX4_ruled 38 = .ok (.iload_n 2, 1) := dk_28 (dk_at dksX4_ruled_1 14 rfl rfl)
theorem dX4_ruled_39 : decode cX4_ruled 39 = .ok (.iconst 2, 1) := dk_5 (dk_at dksX4_ruled_1 15 rfl rfl)
theorem dX4_ruled_40 : decode cX4_ruled 40 = .ok (.if_icmp .ne 12, 3) := dk_160 0 12 (dk_at dksX4_ruled_1 16 rfl rfl)
theorem dX4_ruled_43 : decode cX4_ruled 43 = .ok (.aload_n 0, 1) := dk_42 (dk_at dksX4_ruled_1 19 rfl rfl)
theorem dX4_ruled_44 : decode cX4_ruled 44 = .ok (.getfield 63, 3) := dk_180 0 63 (dk_at dksX4_ruled_1 20 rfl rfl)
theorem dX4_ruled_47 : decode cX4_ruled 47 = .ok (.iload_n 1, 1) := dk_27 (dk_at dksX4_ruled_1 23 rfl rfl)
theorem dX4_ruled_48 : decode cX4_ruled 48 = .ok (.iaload, 1) := dk_46 (dk_at dksX4_ruled_2 0 rfl rfl)
theorem dX4_ruled_49 : decode cX4_ruled 49 = .ok (.goto 29, 3) := dk_167 0 29 (dk_at dksX4_ruled_2 1 rfl rfl)
theorem dX4_ruled_52 : decode cX4_ruled 52 = .ok (.iload_n 2, 1) := dk_28 (dk_at dksX4_ruled_2 4 rfl rfl)
theorem dX4_ruled_53 : decode cX4_ruled 53 = .ok (.iconst 3, 1) := dk_6 (dk_at dksX4_ruled_2 5 rfl rfl)
theorem dX4_ruled_54 : decode cX4_ruled 54 = .ok (.bipush 6, 2) := dk_16 6 (dk_at dksX4_ruled_2 6 rfl rfl)
theorem dX4_ruled_56 : decode cX4_ruled 56 = .ok (.invokestatic 244, 3) := dk_184 0 244 (dk_at dksX4_ruled_2 8 rfl rfl)
theorem dX4_ruled_59 : decode cX4_ruled 59 = .ok (.ifCond .eq 18, 3) := dk_153 0 18 (dk_at dksX4_ruled_2 11 rfl rfl)
theorem dX4_ruled_62 : decode cX4_ruled 62 = .ok (.aload_n 0, 1) := dk_42 (dk_at dksX4_ruled_2 14 rfl rfl)
theorem dX4_ruled_63 : decode cX4_ruled 63 = .ok (.getfield 66, 3) := dk_180 0 66 (dk_at dksX4_ruled_2 15 rfl rfl)
theorem dX4_ruled_66 : decode cX4_ruled 66 = .ok (.iconst 4, 1) := dk_7 (dk_at dksX4_ruled_2 18 rfl rfl)
theorem dX4_ruled_67 : decode cX4_ruled 67 = .ok (.iload_n 1, 1) := dk_27 (dk_at dksX4_ruled_2 19 rfl rfl)
theorem dX4_ruled_68 : decode cX4_ruled 68 = .ok (.imul, 1) := dk_104 (dk_at dksX4_ruled_2 20 rfl rfl)
theorem dX4_ruled_69 : decode cX4_ruled 69 = .ok (.iload_n 2, 1) := dk_28 (dk_at dksX4_ruled_2 21 rfl rfl)
theorem dX4_ruled_70 : decode cX4_ruled 70 = .ok (.iadd, 1) := dk_96 (dk_at dksX4_ruled_2 22 rfl rfl)
theorem dX4_ruled_71 : decode cX4_ruled 71 = .ok (.iconst 3, 1) := dk_6 (dk_at dksX4_ruled_2 23 rfl rfl)
theorem dX4_ruled_72 : decode cX4_ruled 72 = .ok (.isub, 1) := dk_100 (dk_at dksX4_ruled_3 0 rfl rfl)
theorem dX4_ruled_73 : decode cX4_ruled 73 = .ok (.iaload, 1) := dk_46 (dk_at dksX4_ruled_3 1 rfl rfl)
theorem dX4_ruled_74 : decode cX4_ruled 74 = .ok (.goto 4, 3) := dk_167 0 4 (dk_at dksX4_ruled_3 2 rfl rfl)
theorem dX4_ruled_77 : decode cX4_ruled 77 = .ok (.iconst (-1), 1) := dk_2 (dk_at dksX4_ruled_3 5 rfl rfl)
theorem dX4_ruled_78 : decode cX4_ruled 78 = .ok (.ireturn, 1) := dk_172 (dk_at dksX4_ruled_3 6 rfl rfl)
abbrev cX4_asked : ByteArray := prog_23_method_51_code
def yX4_asked : MethodName := ⟨RX4, "asked", "(III)I"⟩
def dkwX4_asked_2 : List UInt8 := [182, 1, 187, 167, 0, 18, 29, 5, 160, 0, 12, 42, 27, 28, 182, 1, 194, 167, 0, 4, 2, 172]
abbrev dktX4_asked_2 : List UInt8 := dkwX4_asked_2 ++ []
def dkwX4_asked_1 : List UInt8 := [27, 28, 182, 1, 190, 153, 0, 7, 4, 167, 0, 36, 3, 167, 0, 32, 29, 4, 160, 0, 12, 42, 27, 28]
abbrev dktX4_asked_1 : List UInt8 := dkwX4_asked_1 ++ dktX4_asked_2
def dkwX4_asked_0 : List UInt8 := [27, 3, 4, 184, 0, 244, 153, 0, 11, 42, 28, 182, 0, 255, 154, 0, 5, 2, 172, 29, 154, 0, 20, 42]
abbrev dktX4_asked_0 : List UInt8 := dkwX4_asked_0 ++ dktX4_asked_1
theorem dksX4_asked_0 : cX4_asked.data.toList.drop 0 = dktX4_asked_0 := by decide +kernel
theorem dksX4_asked_1 : cX4_asked.data.toList.drop 24 = dktX4_asked_1 := dk_seg dksX4_asked_0 24 rfl rfl
theorem dksX4_asked_2 : cX4_asked.data.toList.drop 48 = dktX4_asked_2 := dk_seg dksX4_asked_1 24 rfl rfl
theorem dX4_asked_0 : decode cX4_asked 0 = .ok (.iload_n 1, 1) := dk_27 (dk_at dksX4_asked_0 0 rfl rfl)
theorem dX4_asked_1 : decode cX4_asked 1 = .ok (.iconst 0, 1) := dk_3 (dk_at dksX4_asked_0 1 rfl rfl)
theorem dX4_asked_2 : decode cX4_asked 2 = .ok (.iconst 1, 1) := dk_4 (dk_at dksX4_asked_0 2 rfl rfl)
theorem dX4_asked_3 : decode cX4_asked 3 = .ok (.invokestatic 244, 3) := dk_184 0 244 (dk_at dksX4_asked_0 3 rfl rfl)
theorem dX4_asked_6 : decode cX4_asked 6 = .ok (.ifCond .eq 11, 3) := dk_153 0 11 (dk_at dksX4_asked_0 6 rfl rfl)
theorem dX4_asked_9 : decode cX4_asked 9 = .ok (.aload_n 0, 1) := dk_42 (dk_at dksX4_asked_0 9 rfl rfl)
theorem dX4_asked_10 : decode cX4_asked 10 = .ok (.iload_n 2, 1) := dk_28 (dk_at dksX4_asked_0 10 rfl rfl)
theorem dX4_asked_11 : decode cX4_asked 11 = .ok (.invokevirtual 255, 3) := dk_182 0 255 (dk_at dksX4_asked_0 11 rfl rfl)
theorem dX4_asked_14 : decode cX4_asked 14 = .ok (.ifCond .ne 5, 3) := dk_154 0 5 (dk_at dksX4_asked_0 14 rfl rfl)
theorem dX4_asked_17 : decode cX4_asked 17 = .ok (.iconst (-1), 1) := dk_2 (dk_at dksX4_asked_0 17 rfl rfl)
theorem dX4_asked_18 : decode cX4_asked 18 = .ok (.ireturn, 1) := dk_172 (dk_at dksX4_asked_0 18 rfl rfl)
theorem dX4_asked_19 : decode cX4_asked 19 = .ok (.iload_n 3, 1) := dk_29 (dk_at dksX4_asked_0 19 rfl rfl)
theorem dX4_asked_20 : decode cX4_asked 20 = .ok (.ifCond .ne 20, 3) := dk_154 0 20 (dk_at dksX4_asked_0 20 rfl rfl)
theorem dX4_asked_23 : decode cX4_asked 23 = .ok (.aload_n 0, 1) := dk_42 (dk_at dksX4_asked_0 23 rfl rfl)
theorem dX4_asked_24 : decode cX4_asked 24 = .ok (.iload_n 1, 1) := dk_27 (dk_at dksX4_asked_1 0 rfl rfl)
theorem dX4_asked_25 : decode cX4_asked 25 = .ok (.iload_n 2, 1) := dk_28 (dk_at dksX4_asked_1 1 rfl rfl)
theorem dX4_asked_26 : decode cX4_asked 26 = .ok (.invokevirtual 446, 3) := dk_182 1 190 (dk_at dksX4_asked_1 2 rfl rfl)
theorem dX4_asked_29 : decode cX4_asked 29 = .ok (.ifCond .eq 7, 3) := dk_153 0 7 (dk_at dksX4_asked_1 5 rfl rfl)
theorem dX4_asked_32 : decode cX4_asked 32 = .ok (.iconst 1, 1) := dk_4 (dk_at dksX4_asked_1 8 rfl rfl)
theorem dX4_asked_33 : decode cX4_asked 33 = .ok (.goto 36, 3) := dk_167 0 36 (dk_at dksX4_asked_1 9 rfl rfl)
theorem dX4_asked_36 : decode cX4_asked 36 = .ok (.iconst 0, 1) := dk_3 (dk_at dksX4_asked_1 12 rfl rfl)
theorem dX4_asked_37 : decode cX4_asked 37 = .ok (.goto 32, 3) := dk_167 0 32 (dk_at dksX4_asked_1 13 rfl rfl)
theorem dX4_asked_40 : decode cX4_asked 40 = .ok (.iload_n 3, 1) := dk_29 (dk_at dksX4_asked_1 16 rfl rfl)
theorem dX4_asked_41 : decode cX4_asked 41 = .ok (.iconst 1, 1) := dk_4 (dk_at dksX4_asked_1 17 rfl rfl)
theorem dX4_asked_42 : decode cX4_asked 42 = .ok (.if_icmp .ne 12, 3) := dk_160 0 12 (dk_at dksX4_asked_1 18 rfl rfl)
theorem dX4_asked_45 : decode cX4_asked 45 = .ok (.aload_n 0, 1) := dk_42 (dk_at dksX4_asked_1 21 rfl rfl)
theorem dX4_asked_46 : decode cX4_asked 46 = .ok (.iload_n 1, 1) := dk_27 (dk_at dksX4_asked_1 22 rfl rfl)
theorem dX4_asked_47 : decode cX4_asked 47 = .ok (.iload_n 2, 1) := dk_28 (dk_at dksX4_asked_1 23 rfl rfl)
theorem dX4_asked_48 : decode cX4_asked 48 = .ok (.invokevirtual 443, 3) := dk_182 1 187 (dk_at dksX4_asked_2 0 rfl rfl)
theorem dX4_asked_51 : decode cX4_asked 51 = .ok (.goto 18, 3) := dk_167 0 18 (dk_at dksX4_asked_2 3 rfl rfl)
theorem dX4_asked_54 : decode cX4_asked 54 = .ok (.iload_n 3, 1) := dk_29 (dk_at dksX4_asked_2 6 rfl rfl)
theorem dX4_asked_55 : decode cX4_asked 55 = .ok (.iconst 2, 1) := dk_5 (dk_at dksX4_asked_2 7 rfl rfl)
theorem dX4_asked_56 : decode cX4_asked 56 = .ok (.if_icmp .ne 12, 3) := dk_160 0 12 (dk_at dksX4_asked_2 8 rfl rfl)
theorem dX4_asked_59 : decode cX4_asked 59 = .ok (.aload_n 0, 1) := dk_42 (dk_at dksX4_asked_2 11 rfl rfl)
theorem dX4_asked_60 : decode cX4_asked 60 = .ok (.iload_n 1, 1) := dk_27 (dk_at dksX4_asked_2 12 rfl rfl)
theorem dX4_asked_61 : decode cX4_asked 61 = .ok (.iload_n 2, 1) := dk_28 (dk_at dksX4_asked_2 13 rfl rfl)
theorem dX4_asked_62 : decode cX4_asked 62 = .ok (.invokevirtual 450, 3) := dk_182 1 194 (dk_at dksX4_asked_2 14 rfl rfl)
theorem dX4_asked_65 : decode cX4_asked 65 = .ok (.goto 4, 3) := dk_167 0 4 (dk_at dksX4_asked_2 17 rfl rfl)
theorem dX4_asked_68 : decode cX4_asked 68 = .ok (.iconst (-1), 1) := dk_2 (dk_at dksX4_asked_2 20 rfl rfl)
theorem dX4_asked_69 : decode cX4_asked 69 = .ok (.ireturn, 1) := dk_172 (dk_at dksX4_asked_2 21 rfl rfl)
abbrev cX4_isBarred : ByteArray := prog_23_method_48_code
def yX4_isBarred : MethodName := ⟨RX4, "isBarred", "(II)Z"⟩
def dkwX4_isBarred_3 : List UInt8 := [160, 0, 7, 4, 167, 0, 4, 3, 62, 132, 4, 1, 167, 255, 180, 29, 172]
abbrev dktX4_isBarred_3 : List UInt8 := dkwX4_isBarred_3 ++ []
def dkwX4_isBarred_2 : List UInt8 := [21, 4, 96, 46, 42, 180, 0, 72, 16, 21, 27, 104, 21, 4, 96, 4, 96, 46, 182, 1, 183, 4]
abbrev dktX4_isBarred_2 : List UInt8 := dkwX4_isBarred_2 ++ dktX4_isBarred_3
def dkwX4_isBarred_1 : List UInt8 := [16, 20, 27, 104, 21, 4, 96, 46, 7, 160, 0, 43, 42, 27, 28, 42, 180, 0, 72, 16, 21, 27, 104]
abbrev dktX4_isBarred_1 : List UInt8 := dkwX4_isBarred_1 ++ dktX4_isBarred_2
def dkwX4_isBarred_0 : List UInt8 := [3, 62, 3, 54, 4, 21, 4, 42, 180, 0, 57, 27, 46, 162, 0, 71, 29, 154, 0, 55, 42, 180, 0, 69]
abbrev dktX4_isBarred_0 : List UInt8 := dkwX4_isBarred_0 ++ dktX4_isBarred_1
theorem dksX4_isBarred_0 : cX4_isBarred.data.toList.drop 0 = dktX4_isBarred_0 := by decide +kernel
theorem dksX4_isBarred_1 : cX4_isBarred.data.toList.drop 24 = dktX4_isBarred_1 := dk_seg dksX4_isBarred_0 24 rfl rfl
theorem dksX4_isBarred_2 : cX4_isBarred.data.toList.drop 47 = dktX4_isBarred_2 := dk_seg dksX4_isBarred_1 23 rfl rfl
theorem dksX4_isBarred_3 : cX4_isBarred.data.toList.drop 69 = dktX4_isBarred_3 := dk_seg dksX4_isBarred_2 22 rfl rfl
theorem dX4_isBarred_0 : decode cX4_isBarred 0 = .ok (.iconst 0, 1) := dk_3 (dk_at dksX4_isBarred_0 0 rfl rfl)
theorem dX4_isBarred_1 : decode cX4_isBarred 1 = .ok (.istore_n 3, 1) := dk_62 (dk_at dksX4_isBarred_0 1 rfl rfl)
theorem dX4_isBarred_2 : decode cX4_isBarred 2 = .ok (.iconst 0, 1) := dk_3 (dk_at dksX4_isBarred_0 2 rfl rfl)
theorem dX4_isBarred_3 : decode cX4_isBarred 3 = .ok (.istore 4, 2) := dk_54 4 (dk_at dksX4_isBarred_0 3 rfl rfl)
theorem dX4_isBarred_5 : decode cX4_isBarred 5 = .ok (.iload 4, 2) := dk_21 4 (dk_at dksX4_isBarred_0 5 rfl rfl)
theorem dX4_isBarred_7 : decode cX4_isBarred 7 = .ok (.aload_n 0, 1) := dk_42 (dk_at dksX4_isBarred_0 7 rfl rfl)
theorem dX4_isBarred_8 : decode cX4_isBarred 8 = .ok (.getfield 57, 3) := dk_180 0 57 (dk_at dksX4_isBarred_0 8 rfl rfl)
theorem dX4_isBarred_11 : decode cX4_isBarred 11 = .ok (.iload_n 1, 1) := dk_27 (dk_at dksX4_isBarred_0 11 rfl rfl)
theorem dX4_isBarred_12 : decode cX4_isBarred 12 = .ok (.iaload, 1) := dk_46 (dk_at dksX4_isBarred_0 12 rfl rfl)
theorem dX4_isBarred_13 : decode cX4_isBarred 13 = .ok (.if_icmp .ge 71, 3) := dk_162 0 71 (dk_at dksX4_isBarred_0 13 rfl rfl)
theorem dX4_isBarred_16 : decode cX4_isBarred 16 = .ok (.iload_n 3, 1) := dk_29 (dk_at dksX4_isBarred_0 16 rfl rfl)
theorem dX4_isBarred_17 : decode cX4_isBarred 17 = .ok (.ifCond .ne 55, 3) := dk_154 0 55 (dk_at dksX4_isBarred_0 17 rfl rfl)
theorem dX4_isBarred_20 : decode cX4_isBarred 20 = .ok (.aload_n 0, 1) := dk_42 (dk_at dksX4_isBarred_0 20 rfl rfl)
theorem dX4_isBarred_21 : decode cX4_isBarred 21 = .ok (.getfield 69, 3) := dk_180 0 69 (dk_at dksX4_isBarred_0 21 rfl rfl)
theorem dX4_isBarred_24 : decode cX4_isBarred 24 = .ok (.bipush 20, 2) := dk_16 20 (dk_at dksX4_isBarred_1 0 rfl rfl)
theorem dX4_isBarred_26 : decode cX4_isBarred 26 = .ok (.iload_n 1, 1) := dk_27 (dk_at dksX4_isBarred_1 2 rfl rfl)
theorem dX4_isBarred_27 : decode cX4_isBarred 27 = .ok (.imul, 1) := dk_104 (dk_at dksX4_isBarred_1 3 rfl rfl)
theorem dX4_isBarred_28 : decode cX4_isBarred 28 = .ok (.iload 4, 2) := dk_21 4 (dk_at dksX4_isBarred_1 4 rfl rfl)
theorem dX4_isBarred_30 : decode cX4_isBarred 30 = .ok (.iadd, 1) := dk_96 (dk_at dksX4_isBarred_1 6 rfl rfl)
theorem dX4_isBarred_31 : decode cX4_isBarred 31 = .ok (.iaload, 1) := dk_46 (dk_at dksX4_isBarred_1 7 rfl rfl)
theorem dX4_isBarred_32 : decode cX4_isBarred 32 = .ok (.iconst 4, 1) := dk_7 (dk_at dksX4_isBarred_1 8 rfl rfl)
theorem dX4_isBarred_33 : decode cX4_isBarred 33 = .ok (.if_icmp .ne 43, 3) := dk_160 0 43 (dk_at dksX4_isBarred_1 9 rfl rfl)
theorem dX4_isBarred_36 : decode cX4_isBarred 36 = .ok (.aload_n 0, 1) := dk_42 (dk_at dksX4_isBarred_1 12 rfl rfl)
theorem dX4_isBarred_37 : decode cX4_isBarred 37 = .ok (.iload_n 1, 1) := dk_27 (dk_at dksX4_isBarred_1 13 rfl rfl)
theorem dX4_isBarred_38 : decode cX4_isBarred 38 = .ok (.iload_n 2, 1) := dk_28 (dk_at dksX4_isBarred_1 14 rfl rfl)
theorem dX4_isBarred_39 : decode cX4_isBarred 39 = .ok (.aload_n 0, 1) := dk_42 (dk_at dksX4_isBarred_1 15 rfl rfl)
theorem dX4_isBarred_40 : decode cX4_isBarred 40 = .ok (.getfield 72, 3) := dk_180 0 72 (dk_at dksX4_isBarred_1 16 rfl rfl)
theorem dX4_isBarred_43 : decode cX4_isBarred 43 = .ok (.bipush 21, 2) := dk_16 21 (dk_at dksX4_isBarred_1 19 rfl rfl)
theorem dX4_isBarred_45 : decode cX4_isBarred 45 = .ok (.iload_n 1, 1) := dk_27 (dk_at dksX4_isBarred_1 21 rfl rfl)
theorem dX4_isBarred_46 : decode cX4_isBarred 46 = .ok (.imul, 1) := dk_104 (dk_at dksX4_isBarred_1 22 rfl rfl)
theorem dX4_isBarred_47 : decode cX4_isBarred 47 = .ok (.iload 4, 2) := dk_21 4 (dk_at dksX4_isBarred_2 0 rfl rfl)
theorem dX4_isBarred_49 : decode cX4_isBarred 49 = .ok (.iadd, 1) := dk_96 (dk_at dksX4_isBarred_2 2 rfl rfl)
theorem dX4_isBarred_50 : decode cX4_isBarred 50 = .ok (.iaload, 1) := dk_46 (dk_at dksX4_isBarred_2 3 rfl rfl)
theorem dX4_isBarred_51 : decode cX4_isBarred 51 = .ok (.aload_n 0, 1) := dk_42 (dk_at dksX4_isBarred_2 4 rfl rfl)
theorem dX4_isBarred_52 : decode cX4_isBarred 52 = .ok (.getfield 72, 3) := dk_180 0 72 (dk_at dksX4_isBarred_2 5 rfl rfl)
theorem dX4_isBarred_55 : decode cX4_isBarred 55 = .ok (.bipush 21, 2) := dk_16 21 (dk_at dksX4_isBarred_2 8 rfl rfl)
theorem dX4_isBarred_57 : decode cX4_isBarred 57 = .ok (.iload_n 1, 1) := dk_27 (dk_at dksX4_isBarred_2 10 rfl rfl)
theorem dX4_isBarred_58 : decode cX4_isBarred 58 = .ok (.imul, 1) := dk_104 (dk_at dksX4_isBarred_2 11 rfl rfl)
theorem dX4_isBarred_59 : decode cX4_isBarred 59 = .ok (.iload 4, 2) := dk_21 4 (dk_at dksX4_isBarred_2 12 rfl rfl)
theorem dX4_isBarred_61 : decode cX4_isBarred 61 = .ok (.iadd, 1) := dk_96 (dk_at dksX4_isBarred_2 14 rfl rfl)
theorem dX4_isBarred_62 : decode cX4_isBarred 62 = .ok (.iconst 1, 1) := dk_4 (dk_at dksX4_isBarred_2 15 rfl rfl)
theorem dX4_isBarred_63 : decode cX4_isBarred 63 = .ok (.iadd, 1) := dk_96 (dk_at dksX4_isBarred_2 16 rfl rfl)
theorem dX4_isBarred_64 : decode cX4_isBarred 64 = .ok (.iaload, 1) := dk_46 (dk_at dksX4_isBarred_2 17 rfl rfl)
theorem dX4_isBarred_65 : decode cX4_isBarred 65 = .ok (.invokevirtual 439, 3) := dk_182 1 183 (dk_at dksX4_isBarred_2 18 rfl rfl)
theorem dX4_isBarred_68 : decode cX4_isBarred 68 = .ok (.iconst 1, 1) := dk_4 (dk_at dksX4_isBarred_2 21 rfl rfl)
theorem dX4_isBarred_69 : decode cX4_isBarred 69 = .ok (.if_icmp .ne 7, 3) := dk_160 0 7 (dk_at dksX4_isBarred_3 0 rfl rfl)
theorem dX4_isBarred_72 : decode cX4_isBarred 72 = .ok (.iconst 1, 1) := dk_4 (dk_at dksX4_isBarred_3 3 rfl rfl)
theorem dX4_isBarred_73 : decode cX4_isBarred 73 = .ok (.goto 4, 3) := dk_167 0 4 (dk_at dksX4_isBarred_3 4 rfl rfl)
theorem dX4_isBarred_76 : decode cX4_isBarred 76 = .ok (.iconst 0, 1) := dk_3 (dk_at dksX4_isBarred_3 7 rfl rfl)
theorem dX4_isBarred_77 : decode cX4_isBarred 77 = .ok (.istore_n 3, 1) := dk_62 (dk_at dksX4_isBarred_3 8 rfl rfl)
theorem dX4_isBarred_78 : decode cX4_isBarred 78 = .ok (.iinc 4 1, 3) := dk_132 4 1 (dk_at dksX4_isBarred_3 9 rfl rfl)
theorem dX4_isBarred_81 : decode cX4_isBarred 81 = .ok (.goto (-76), 3) := dk_167 255 180 (dk_at dksX4_isBarred_3 12 rfl rfl)
theorem dX4_isBarred_84 : decode cX4_isBarred 84 = .ok (.iload_n 3, 1) := dk_29 (dk_at dksX4_isBarred_3 15 rfl rfl)
theorem dX4_isBarred_85 : decode cX4_isBarred 85 = .ok (.ireturn, 1) := dk_172 (dk_at dksX4_isBarred_3 16 rfl rfl)
abbrev cX4_comesTo : ByteArray := prog_23_method_47_code
def yX4_comesTo : MethodName := ⟨RX4, "comesTo", "(IIII)I"⟩
def dkwX4_comesTo_7 : List UInt8 := [132, 6, 1, 167, 255, 94, 42, 180, 0, 102, 3, 46, 172]
abbrev dktX4_comesTo_7 : List UInt8 := dkwX4_comesTo_7 ++ []
def dkwX4_comesTo_6 : List UInt8 := [21, 7, 42, 180, 0, 102, 21, 5, 4, 100, 46, 42, 180, 0, 102, 21, 5, 46, 184, 1, 180, 79]
abbrev dktX4_comesTo_6 : List UInt8 := dkwX4_comesTo_6 ++ dktX4_comesTo_7
def dkwX4_comesTo_5 : List UInt8 := [180, 0, 102, 21, 5, 4, 100, 46, 100, 79, 167, 0, 36, 132, 5, 255, 42, 180, 0, 102, 21, 5, 4, 100]
abbrev dktX4_comesTo_5 : List UInt8 := dkwX4_comesTo_5 ++ dktX4_comesTo_6
def dkwX4_comesTo_4 : List UInt8 := [21, 8, 108, 79, 167, 0, 66, 21, 7, 16, 16, 160, 0, 26, 42, 180, 0, 102, 21, 5, 4, 100, 4, 42]
abbrev dktX4_comesTo_4 : List UInt8 := dkwX4_comesTo_4 ++ dktX4_comesTo_5
def dkwX4_comesTo_3 : List UInt8 := [79, 132, 5, 1, 167, 0, 90, 21, 7, 16, 12, 160, 0, 20, 42, 180, 0, 102, 21, 5, 4, 100, 92, 46]
abbrev dktX4_comesTo_3 : List UInt8 := dkwX4_comesTo_3 ++ dktX4_comesTo_4
def dkwX4_comesTo_2 : List UInt8 := [54, 8, 21, 7, 16, 9, 162, 0, 25, 42, 180, 0, 102, 21, 5, 42, 28, 21, 7, 21, 8, 182, 1, 176]
abbrev dktX4_comesTo_2 : List UInt8 := dkwX4_comesTo_2 ++ dktX4_comesTo_3
def dkwX4_comesTo_1 : List UInt8 := [21, 6, 104, 96, 46, 54, 7, 42, 180, 0, 78, 17, 4, 196, 27, 104, 5, 21, 6, 104, 96, 4, 96, 46]
abbrev dktX4_comesTo_1 : List UInt8 := dkwX4_comesTo_1 ++ dktX4_comesTo_2
def dkwX4_comesTo_0 : List UInt8 := [3, 54, 5, 29, 54, 6, 21, 6, 21, 4, 162, 0, 161, 42, 180, 0, 78, 17, 4, 196, 27, 104, 5]
abbrev dktX4_comesTo_0 : List UInt8 := dkwX4_comesTo_0 ++ dktX4_comesTo_1
theorem dksX4_comesTo_0 : cX4_comesTo.data.toList.drop 0 = dktX4_comesTo_0 := by decide +kernel
theorem dksX4_comesTo_1 : cX4_comesTo.data.toList.drop 23 = dktX4_comesTo_1 := dk_seg dksX4_comesTo_0 23 rfl rfl
theorem dksX4_comesTo_2 : cX4_comesTo.data.toList.drop 47 = dktX4_comesTo_2 := dk_seg dksX4_comesTo_1 24 rfl rfl
theorem dksX4_comesTo_3 : cX4_comesTo.data.toList.drop 71 = dktX4_comesTo_3 := dk_seg dksX4_comesTo_2 24 rfl rfl
theorem dksX4_comesTo_4 : cX4_comesTo.data.toList.drop 95 = dktX4_comesTo_4 := dk_seg dksX4_comesTo_3 24 rfl rfl
theorem dksX4_comesTo_5 : cX4_comesTo.data.toList.drop 119 = dktX4_comesTo_5 := dk_seg dksX4_comesTo_4 24 rfl rfl
theorem dksX4_comesTo_6 : cX4_comesTo.data.toList.drop 143 = dktX4_comesTo_6 := dk_seg dksX4_comesTo_5 24 rfl rfl
theorem dksX4_comesTo_7 : cX4_comesTo.data.toList.drop 165 = dktX4_comesTo_7 := dk_seg dksX4_comesTo_6 22 rfl rfl
theorem dX4_comesTo_0 : decode cX4_comesTo 0 = .ok (.iconst 0, 1) := dk_3 (dk_at dksX4_comesTo_0 0 rfl rfl)
theorem dX4_comesTo_1 : decode cX4_comesTo 1 = .ok (.istore 5, 2) := dk_54 5 (dk_at dksX4_comesTo_0 1 rfl rfl)
theorem dX4_comesTo_3 : decode cX4_comesTo 3 = .ok (.iload_n 3, 1) := dk_29 (dk_at dksX4_comesTo_0 3 rfl rfl)
theorem dX4_comesTo_4 : decode cX4_comesTo 4 = .ok (.istore 6, 2) := dk_54 6 (dk_at dksX4_comesTo_0 4 rfl rfl)
theorem dX4_comesTo_6 : decode cX4_comesTo 6 = .ok (.iload 6, 2) := dk_21 6 (dk_at dksX4_comesTo_0 6 rfl rfl)
theorem dX4_comesTo_8 : decode cX4_comesTo 8 = .ok (.iload 4, 2) := dk_21 4 (dk_at dksX4_comesTo_0 8 rfl rfl)
theorem dX4_comesTo_10 : decode cX4_comesTo 10 = .ok (.if_icmp .ge 161, 3) := dk_162 0 161 (dk_at dksX4_comesTo_0 10 rfl rfl)
theorem dX4_comesTo_13 : decode cX4_comesTo 13 = .ok (.aload_n 0, 1) := dk_42 (dk_at dksX4_comesTo_0 13 rfl rfl)
theorem dX4_comesTo_14 : decode cX4_comesTo 14 = .ok (.getfield 78, 3) := dk_180 0 78 (dk_at dksX4_comesTo_0 14 rfl rfl)
theorem dX4_comesTo_17 : decode cX4_comesTo 17 = .ok (.sipush 1220, 3) := dk_17 4 196 (dk_at dksX4_comesTo_0 17 rfl rfl)
theorem dX4_comesTo_20 : decode cX4_comesTo 20 = .ok (.iload_n 1, 1) := dk_27 (dk_at dksX4_comesTo_0 20 rfl rfl)
theorem dX4_comesTo_21 : decode cX4_comesTo 21 = .ok (.imul, 1) := dk_104 (dk_at dksX4_comesTo_0 21 rfl rfl)
theorem dX4_comesTo_22 : decode cX4_comesTo 22 = .ok (.iconst 2, 1) := dk_5 (dk_at dksX4_comesTo_0 22 rfl rfl)
theorem dX4_comesTo_23 : decode cX4_comesTo 23 = .ok (.iload 6, 2) := dk_21 6 (dk_at dksX4_comesTo_1 0 rfl rfl)
theorem dX4_comesTo_25 : decode cX4_comesTo 25 = .ok (.imul, 1) := dk_104 (dk_at dksX4_comesTo_1 2 rfl rfl)
theorem dX4_comesTo_26 : decode cX4_comesTo 26 = .ok (.iadd, 1) := dk_96 (dk_at dksX4_comesTo_1 3 rfl rfl)
theorem dX4_comesTo_27 : decode cX4_comesTo 27 = .ok (.iaload, 1) := dk_46 (dk_at dksX4_comesTo_1 4 rfl rfl)
theorem dX4_comesTo_28 : decode cX4_comesTo 28 = .ok (.istore 7, 2) := dk_54 7 (dk_at dksX4_comesTo_1 5 rfl rfl)
theorem dX4_comesTo_30 : decode cX4_comesTo 30 = .ok (.aload_n 0, 1) := dk_42 (dk_at dksX4_comesTo_1 7 rfl rfl)
theorem dX4_comesTo_31 : decode cX4_comesTo 31 = .ok (.getfield 78, 3) := dk_180 0 78 (dk_at dksX4_comesTo_1 8 rfl rfl)
theorem dX4_comesTo_34 : decode cX4_comesTo 34 = .ok (.sipush 1220, 3) := dk_17 4 196 (dk_at dksX4_comesTo_1 11 rfl rfl)
theorem dX4_comesTo_37 : decode cX4_comesTo 37 = .ok (.iload_n 1, 1) := dk_27 (dk_at dksX4_comesTo_1 14 rfl rfl)
theorem dX4_comesTo_38 : decode cX4_comesTo 38 = .ok (.imul, 1) := dk_104 (dk_at dksX4_comesTo_1 15 rfl rfl)
theorem dX4_comesTo_39 : decode cX4_comesTo 39 = .ok (.iconst 2, 1) := dk_5 (dk_at dksX4_comesTo_1 16 rfl rfl)
theorem dX4_comesTo_40 : decode cX4_comesTo 40 = .ok (.iload 6, 2) := dk_21 6 (dk_at dksX4_comesTo_1 17 rfl rfl)
theorem dX4_comesTo_42 : decode cX4_comesTo 42 = .ok (.imul, 1) := dk_104 (dk_at dksX4_comesTo_1 19 rfl rfl)
theorem dX4_comesTo_43 : decode cX4_comesTo 43 = .ok (.iadd, 1) := dk_96 (dk_at dksX4_comesTo_1 20 rfl rfl)
theorem dX4_comesTo_44 : decode cX4_comesTo 44 = .ok (.iconst 1, 1) := dk_4 (dk_at dksX4_comesTo_1 21 rfl rfl)
theorem dX4_comesTo_45 : decode cX4_comesTo 45 = .ok (.iadd, 1) := dk_96 (dk_at dksX4_comesTo_1 22 rfl rfl)
theorem dX4_comesTo_46 : decode cX4_comesTo 46 = .ok (.iaload, 1) := dk_46 (dk_at dksX4_comesTo_1 23 rfl rfl)
theorem dX4_comesTo_47 : decode cX4_comesTo 47 = .ok (.istore 8, 2) := dk_54 8 (dk_at dksX4_comesTo_2 0 rfl rfl)
theorem dX4_comesTo_49 : decode cX4_comesTo 49 = .ok (.iload 7, 2) := dk_21 7 (dk_at dksX4_comesTo_2 2 rfl rfl)
theorem dX4_comesTo_51 : decode cX4_comesTo 51 = .ok (.bipush 9, 2) := dk_16 9 (dk_at dksX4_comesTo_2 4 rfl rfl)
theorem dX4_comesTo_53 : decode cX4_comesTo 53 = .ok (.if_icmp .ge 25, 3) := dk_162 0 25 (dk_at dksX4_comesTo_2 6 rfl rfl)
theorem dX4_comesTo_56 : decode cX4_comesTo 56 = .ok (.aload_n 0, 1) := dk_42 (dk_at dksX4_comesTo_2 9 rfl rfl)
theorem dX4_comesTo_57 : decode cX4_comesTo 57 = .ok (.getfield 102, 3) := dk_180 0 102 (dk_at dksX4_comesTo_2 10 rfl rfl)
theorem dX4_comesTo_60 : decode cX4_comesTo 60 = .ok (.iload 5, 2) := dk_21 5 (dk_at dksX4_comesTo_2 13 rfl rfl)
theorem dX4_comesTo_62 : decode cX4_comesTo 62 = .ok (.aload_n 0, 1) := dk_42 (dk_at dksX4_comesTo_2 15 rfl rfl)
theorem dX4_comesTo_63 : decode cX4_comesTo 63 = .ok (.iload_n 2, 1) := dk_28 (dk_at dksX4_comesTo_2 16 rfl rfl)
theorem dX4_comesTo_64 : decode cX4_comesTo 64 = .ok (.iload 7, 2) := dk_21 7 (dk_at dksX4_comesTo_2 17 rfl rfl)
theorem dX4_comesTo_66 : decode cX4_comesTo 66 = .ok (.iload 8, 2) := dk_21 8 (dk_at dksX4_comesTo_2 19 rfl rfl)
theorem dX4_comesTo_68 : decode cX4_comesTo 68 = .ok (.invokevirtual 432, 3) := dk_182 1 176 (dk_at dksX4_comesTo_2 21 rfl rfl)
theorem dX4_comesTo_71 : decode cX4_comesTo 71 = .ok (.iastore, 1) := dk_79 (dk_at dksX4_comesTo_3 0 rfl rfl)
theorem dX4_comesTo_72 : decode cX4_comesTo 72 = .ok (.iinc 5 1, 3) := dk_132 5 1 (dk_at dksX4_comesTo_3 1 rfl rfl)
theorem dX4_comesTo_75 : decode cX4_comesTo 75 = .ok (.goto 90, 3) := dk_167 0 90 (dk_at dksX4_comesTo_3 4 rfl rfl)
theorem dX4_comesTo_78 : decode cX4_comesTo 78 = .ok (.iload 7, 2) := dk_21 7 (dk_at dksX4_comesTo_3 7 rfl rfl)
theorem dX4_comesTo_80 : decode cX4_comesTo 80 = .ok (.bipush 12, 2) := dk_16 12 (dk_at dksX4_comesTo_3 9 rfl rfl)
theorem dX4_comesTo_82 : decode cX4_comesTo 82 = .ok (.if_icmp .ne 20, 3) := dk_160 0 20 (dk_at dksX4_comesTo_3 11 rfl rfl)
theorem dX4_comesTo_85 : decode cX4_comesTo 85 = .ok (.aload_n 0, 1) := dk_42 (dk_at dksX4_comesTo_3 14 rfl rfl)
theorem dX4_comesTo_86 : decode cX4_comesTo 86 = .ok (.getfield 102, 3) := dk_180 0 102 (dk_at dksX4_comesTo_3 15 rfl rfl)
theorem dX4_comesTo_89 : decode cX4_comesTo 89 = .ok (.iload 5, 2) := dk_21 5 (dk_at dksX4_comesTo_3 18 rfl rfl)
theorem dX4_comesTo_91 : decode cX4_comesTo 91 = .ok (.iconst 1, 1) := dk_4 (dk_at dksX4_comesTo_3 20 rfl rfl)
theorem dX4_comesTo_92 : decode cX4_comesTo 92 = .ok (.isub, 1) := dk_100 (dk_at dksX4_comesTo_3 21 rfl rfl)
theorem dX4_comesTo_93 : decode cX4_comesTo 93 = .ok (.dup2, 1) := dk_92 (dk_at dksX4_comesTo_3 22 rfl rfl)
theorem dX4_comesTo_94 : decode cX4_comesTo 94 = .ok (.iaload, 1) := dk_46 (dk_at dksX4_comesTo_3 23 rfl rfl)
theorem dX4_comesTo_95 : decode cX4_comesTo 95 = .ok (.iload 8, 2) := dk_21 8 (dk_at dksX4_comesTo_4 0 rfl rfl)
theorem dX4_comesTo_97 : decode cX4_comesTo 97 = .ok (.idiv, 1) := dk_108 (dk_at dksX4_comesTo_4 2 rfl rfl)
theorem dX4_comesTo_98 : decode cX4_comesTo 98 = .ok (.iastore, 1) := dk_79 (dk_at dksX4_comesTo_4 3 rfl rfl)
theorem dX4_comesTo_99 : decode cX4_comesTo 99 = .ok (.goto 66, 3) := dk_167 0 66 (dk_at dksX4_comesTo_4 4 rfl rfl)
theorem dX4_comesTo_102 : decode cX4_comesTo 102 = .ok (.iload 7, 2) := dk_21 7 (dk_at dksX4_comesTo_4 7 rfl rfl)
theorem dX4_comesTo_104 : decode cX4_comesTo 104 = .ok (.bipush 16, 2) := dk_16 16 (dk_at dksX4_comesTo_4 9 rfl rfl)
theorem dX4_comesTo_106 : decode cX4_comesTo 106 = .ok (.if_icmp .ne 26, 3) := dk_160 0 26 (dk_at dksX4_comesTo_4 11 rfl rfl)
theorem dX4_comesTo_109 : decode cX4_comesTo 109 = .ok (.aload_n 0, 1) := dk_42 (dk_at dksX4_comesTo_4 14 rfl rfl)
theorem dX4_comesTo_110 : decode cX4_comesTo 110 = .ok (.getfield 102, 3) := dk_180 0 102 (dk_at dksX4_comesTo_4 15 rfl rfl)
theorem dX4_comesTo_113 : decode cX4_comesTo 113 = .ok (.iload 5, 2) := dk_21 5 (dk_at dksX4_comesTo_4 18 rfl rfl)
theorem dX4_comesTo_115 : decode cX4_comesTo 115 = .ok (.iconst 1, 1) := dk_4 (dk_at dksX4_comesTo_4 20 rfl rfl)
theorem dX4_comesTo_116 : decode cX4_comesTo 116 = .ok (.isub, 1) := dk_100 (dk_at dksX4_comesTo_4 21 rfl rfl)
theorem dX4_comesTo_117 : decode cX4_comesTo 117 = .ok (.iconst 1, 1) := dk_4 (dk_at dksX4_comesTo_4 22 rfl rfl)
theorem dX4_comesTo_118 : decode cX4_comesTo 118 = .ok (.aload_n 0, 1) := dk_42 (dk_at dksX4_comesTo_4 23 rfl rfl)
theorem dX4_comesTo_119 : decode cX4_comesTo 119 = .ok (.getfield 102, 3) := dk_180 0 102 (dk_at dksX4_comesTo_5 0 rfl rfl)
theorem dX4_comesTo_122 : decode cX4_comesTo 122 = .ok (.iload 5, 2) := dk_21 5 (dk_at dksX4_comesTo_5 3 rfl rfl)
theorem dX4_comesTo_124 : decode cX4_comesTo 124 = .ok (.iconst 1, 1) := dk_4 (dk_at dksX4_comesTo_5 5 rfl rfl)
theorem dX4_comesTo_125 : decode cX4_comesTo 125 = .ok (.isub, 1) := dk_100 (dk_at dksX4_comesTo_5 6 rfl rfl)
theorem dX4_comesTo_126 : decode cX4_comesTo 126 = .ok (.iaload, 1) := dk_46 (dk_at dksX4_comesTo_5 7 rfl rfl)
theorem dX4_comesTo_127 : decode cX4_comesTo 127 = .ok (.isub, 1) := dk_100 (dk_at dksX4_comesTo_5 8 rfl rfl)
theorem dX4_comesTo_128 : decode cX4_comesTo 128 = .ok (.iastore, 1) := dk_79 (dk_at dksX4_comesTo_5 9 rfl rfl)
theorem dX4_comesTo_129 : decode cX4_comesTo 129 = .ok (.goto 36, 3) := dk_167 0 36 (dk_at dksX4_comesTo_5 10 rfl rfl)
theorem dX4_comesTo_132 : decode cX4_comesTo 132 = .ok (.iinc 5 (-1), 3) := dk_132 5 255 (dk_at dksX4_comesTo_5 13 rfl rfl)
theorem dX4_comesTo_135 : decode cX4_comesTo 135 = .ok (.aload_n 0, 1) := dk_42 (dk_at dksX4_comesTo_5 16 rfl rfl)
theorem dX4_comesTo_136 : decode cX4_comesTo 136 = .ok (.getfield 102, 3) := dk_180 0 102 (dk_at dksX4_comesTo_5 17 rfl rfl)
theorem dX4_comesTo_139 : decode cX4_comesTo 139 = .ok (.iload 5, 2) := dk_21 5 (dk_at dksX4_comesTo_5 20 rfl rfl)
theorem dX4_comesTo_141 : decode cX4_comesTo 141 = .ok (.iconst 1, 1) := dk_4 (dk_at dksX4_comesTo_5 22 rfl rfl)
theorem dX4_comesTo_142 : decode cX4_comesTo 142 = .ok (.isub, 1) := dk_100 (dk_at dksX4_comesTo_5 23 rfl rfl)
theorem dX4_comesTo_143 : decode cX4_comesTo 143 = .ok (.iload 7, 2) := dk_21 7 (dk_at dksX4_comesTo_6 0 rfl rfl)
theorem dX4_comesTo_145 : decode cX4_comesTo 145 = .ok (.aload_n 0, 1) := dk_42 (dk_at dksX4_comesTo_6 2 rfl rfl)
theorem dX4_comesTo_146 : decode cX4_comesTo 146 = .ok (.getfield 102, 3) := dk_180 0 102 (dk_at dksX4_comesTo_6 3 rfl rfl)
theorem dX4_comesTo_149 : decode cX4_comesTo 149 = .ok (.iload 5, 2) := dk_21 5 (dk_at dksX4_comesTo_6 6 rfl rfl)
theorem dX4_comesTo_151 : decode cX4_comesTo 151 = .ok (.iconst 1, 1) := dk_4 (dk_at dksX4_comesTo_6 8 rfl rfl)
theorem dX4_comesTo_152 : decode cX4_comesTo 152 = .ok (.isub, 1) := dk_100 (dk_at dksX4_comesTo_6 9 rfl rfl)
theorem dX4_comesTo_153 : decode cX4_comesTo 153 = .ok (.iaload, 1) := dk_46 (dk_at dksX4_comesTo_6 10 rfl rfl)
theorem dX4_comesTo_154 : decode cX4_comesTo 154 = .ok (.aload_n 0, 1) := dk_42 (dk_at dksX4_comesTo_6 11 rfl rfl)
theorem dX4_comesTo_155 : decode cX4_comesTo 155 = .ok (.getfield 102, 3) := dk_180 0 102 (dk_at dksX4_comesTo_6 12 rfl rfl)
theorem dX4_comesTo_158 : decode cX4_comesTo 158 = .ok (.iload 5, 2) := dk_21 5 (dk_at dksX4_comesTo_6 15 rfl rfl)
theorem dX4_comesTo_160 : decode cX4_comesTo 160 = .ok (.iaload, 1) := dk_46 (dk_at dksX4_comesTo_6 17 rfl rfl)
theorem dX4_comesTo_161 : decode cX4_comesTo 161 = .ok (.invokestatic 436, 3) := dk_184 1 180 (dk_at dksX4_comesTo_6 18 rfl rfl)
theorem dX4_comesTo_164 : decode cX4_comesTo 164 = .ok (.iastore, 1) := dk_79 (dk_at dksX4_comesTo_6 21 rfl rfl)
theorem dX4_comesTo_165 : decode cX4_comesTo 165 = .ok (.iinc 6 1, 3) := dk_132 6 1 (dk_at dksX4_comesTo_7 0 rfl rfl)
theorem dX4_comesTo_168 : decode cX4_comesTo 168 = .ok (.goto (-162), 3) := dk_167 255 94 (dk_at dksX4_comesTo_7 3 rfl rfl)
theorem dX4_comesTo_171 : decode cX4_comesTo 171 = .ok (.aload_n 0, 1) := dk_42 (dk_at dksX4_comesTo_7 6 rfl rfl)
theorem dX4_comesTo_172 : decode cX4_comesTo 172 = .ok (.getfield 102, 3) := dk_180 0 102 (dk_at dksX4_comesTo_7 7 rfl rfl)
theorem dX4_comesTo_175 : decode cX4_comesTo 175 = .ok (.iconst 0, 1) := dk_3 (dk_at dksX4_comesTo_7 10 rfl rfl)
theorem dX4_comesTo_176 : decode cX4_comesTo 176 = .ok (.iaload, 1) := dk_46 (dk_at dksX4_comesTo_7 11 rfl rfl)
theorem dX4_comesTo_177 : decode cX4_comesTo 177 = .ok (.ireturn, 1) := dk_172 (dk_at dksX4_comesTo_7 12 rfl rfl)
abbrev cX4_known : ByteArray := prog_23_method_45_code
def yX4_known : MethodName := ⟨RX4, "known", "(III)I"⟩
def dkwX4_known_4 : List UInt8 := [182, 0, 237, 172]
abbrev dktX4_known_4 : List UInt8 := dkwX4_known_4 ++ []
def dkwX4_known_3 : List UInt8 := [172, 42, 180, 0, 26, 27, 46, 172, 42, 180, 0, 29, 27, 46, 172, 42, 180, 0, 32, 27, 46, 172, 42]
abbrev dktX4_known_3 : List UInt8 := dkwX4_known_3 ++ dktX4_known_4
def dkwX4_known_2 : List UInt8 := [29, 172, 42, 182, 0, 241, 172, 42, 182, 1, 2, 172, 42, 180, 0, 234, 16, 30, 112, 172, 42, 180, 1, 29]
abbrev dktX4_known_2 : List UInt8 := dkwX4_known_2 ++ dktX4_known_3
def dkwX4_known_1 : List UInt8 := [170, 0, 0, 0, 0, 0, 93, 0, 0, 0, 0, 0, 0, 0, 7, 0, 0, 0, 47, 0, 0, 0, 49, 0, 0, 0, 54, 0, 0, 0, 59, 0, 0, 0, 67, 0, 0, 0, 72, 0, 0, 0, 79, 0, 0, 0, 86]
abbrev dktX4_known_1 : List UInt8 := dkwX4_known_1 ++ dktX4_known_2
def dkwX4_known_0 : List UInt8 := [28]
abbrev dktX4_known_0 : List UInt8 := dkwX4_known_0 ++ dktX4_known_1
theorem dksX4_known_0 : cX4_known.data.toList.drop 0 = dktX4_known_0 := by decide +kernel
theorem dksX4_known_1 : cX4_known.data.toList.drop 1 = dktX4_known_1 := dk_seg dksX4_known_0 1 rfl rfl
theorem dksX4_known_2 : cX4_known.data.toList.drop 48 = dktX4_known_2 := dk_seg dksX4_known_1 47 rfl rfl
theorem dksX4_known_3 : cX4_known.data.toList.drop 72 = dktX4_known_3 := dk_seg dksX4_known_2 24 rfl rfl
theorem dksX4_known_4 : cX4_known.data.toList.drop 95 = dktX4_known_4 := dk_seg dksX4_known_3 23 rfl rfl
theorem dX4_known_0 : decode cX4_known 0 = .ok (.iload_n 2, 1) := dk_28 (dk_at dksX4_known_0 0 rfl rfl)
theorem dX4_known_1 : decode cX4_known 1 = .ok (.tableswitch 93 0 7 #[47, 49, 54, 59, 67, 72, 79, 86], 47) := by decide +kernel
theorem dX4_known_48 : decode cX4_known 48 = .ok (.iload_n 3, 1) := dk_29 (dk_at dksX4_known_2 0 rfl rfl)
theorem dX4_known_49 : decode cX4_known 49 = .ok (.ireturn, 1) := dk_172 (dk_at dksX4_known_2 1 rfl rfl)
theorem dX4_known_50 : decode cX4_known 50 = .ok (.aload_n 0, 1) := dk_42 (dk_at dksX4_known_2 2 rfl rfl)
theorem dX4_known_51 : decode cX4_known 51 = .ok (.invokevirtual 241, 3) := dk_182 0 241 (dk_at dksX4_known_2 3 rfl rfl)
theorem dX4_known_54 : decode cX4_known 54 = .ok (.ireturn, 1) := dk_172 (dk_at dksX4_known_2 6 rfl rfl)
theorem dX4_known_55 : decode cX4_known 55 = .ok (.aload_n 0, 1) := dk_42 (dk_at dksX4_known_2 7 rfl rfl)
theorem dX4_known_56 : decode cX4_known 56 = .ok (.invokevirtual 258, 3) := dk_182 1 2 (dk_at dksX4_known_2 8 rfl rfl)
theorem dX4_known_59 : decode cX4_known 59 = .ok (.ireturn, 1) := dk_172 (dk_at dksX4_known_2 11 rfl rfl)
theorem dX4_known_60 : decode cX4_known 60 = .ok (.aload_n 0, 1) := dk_42 (dk_at dksX4_known_2 12 rfl rfl)
theorem dX4_known_61 : decode cX4_known 61 = .ok (.getfield 234, 3) := dk_180 0 234 (dk_at dksX4_known_2 13 rfl rfl)
theorem dX4_known_64 : decode cX4_known 64 = .ok (.bipush 30, 2) := dk_16 30 (dk_at dksX4_known_2 16 rfl rfl)
theorem dX4_known_66 : decode cX4_known 66 = .ok (.irem, 1) := dk_112 (dk_at dksX4_known_2 18 rfl rfl)
theorem dX4_known_67 : decode cX4_known 67 = .ok (.ireturn, 1) := dk_172 (dk_at dksX4_known_2 19 rfl rfl)
theorem dX4_known_68 : decode cX4_known 68 = .ok (.aload_n 0, 1) := dk_42 (dk_at dksX4_known_2 20 rfl rfl)
theorem dX4_known_69 : decode cX4_known 69 = .ok (.getfield 285, 3) := dk_180 1 29 (dk_at dksX4_known_2 21 rfl rfl)
theorem dX4_known_72 : decode cX4_known 72 = .ok (.ireturn, 1) := dk_172 (dk_at dksX4_known_3 0 rfl rfl)
theorem dX4_known_73 : decode cX4_known 73 = .ok (.aload_n 0, 1) := dk_42 (dk_at dksX4_known_3 1 rfl rfl)
theorem dX4_known_74 : decode cX4_known 74 = .ok (.getfield 26, 3) := dk_180 0 26 (dk_at dksX4_known_3 2 rfl rfl)
theorem dX4_known_77 : decode cX4_known 77 = .ok (.iload_n 1, 1) := dk_27 (dk_at dksX4_known_3 5 rfl rfl)
theorem dX4_known_78 : decode cX4_known 78 = .ok (.iaload, 1) := dk_46 (dk_at dksX4_known_3 6 rfl rfl)
theorem dX4_known_79 : decode cX4_known 79 = .ok (.ireturn, 1) := dk_172 (dk_at dksX4_known_3 7 rfl rfl)
theorem dX4_known_80 : decode cX4_known 80 = .ok (.aload_n 0, 1) := dk_42 (dk_at dksX4_known_3 8 rfl rfl)
theorem dX4_known_81 : decode cX4_known 81 = .ok (.getfield 29, 3) := dk_180 0 29 (dk_at dksX4_known_3 9 rfl rfl)
theorem dX4_known_84 : decode cX4_known 84 = .ok (.iload_n 1, 1) := dk_27 (dk_at dksX4_known_3 12 rfl rfl)
theorem dX4_known_85 : decode cX4_known 85 = .ok (.iaload, 1) := dk_46 (dk_at dksX4_known_3 13 rfl rfl)
theorem dX4_known_86 : decode cX4_known 86 = .ok (.ireturn, 1) := dk_172 (dk_at dksX4_known_3 14 rfl rfl)
theorem dX4_known_87 : decode cX4_known 87 = .ok (.aload_n 0, 1) := dk_42 (dk_at dksX4_known_3 15 rfl rfl)
theorem dX4_known_88 : decode cX4_known 88 = .ok (.getfield 32, 3) := dk_180 0 32 (dk_at dksX4_known_3 16 rfl rfl)
theorem dX4_known_91 : decode cX4_known 91 = .ok (.iload_n 1, 1) := dk_27 (dk_at dksX4_known_3 19 rfl rfl)
theorem dX4_known_92 : decode cX4_known 92 = .ok (.iaload, 1) := dk_46 (dk_at dksX4_known_3 20 rfl rfl)
theorem dX4_known_93 : decode cX4_known 93 = .ok (.ireturn, 1) := dk_172 (dk_at dksX4_known_3 21 rfl rfl)
theorem dX4_known_94 : decode cX4_known 94 = .ok (.aload_n 0, 1) := dk_42 (dk_at dksX4_known_3 22 rfl rfl)
theorem dX4_known_95 : decode cX4_known 95 = .ok (.invokevirtual 237, 3) := dk_182 0 237 (dk_at dksX4_known_4 0 rfl rfl)
theorem dX4_known_98 : decode cX4_known 98 = .ok (.ireturn, 1) := dk_172 (dk_at dksX4_known_4 3 rfl rfl)
abbrev cX4_both : ByteArray := prog_23_method_46_code
def yX4_both : MethodName := ⟨RX4, "both", "(III)I"⟩
def dkwX4_both_4 : List UInt8 := [172, 27, 28, 128, 172]
abbrev dktX4_both_4 : List UInt8 := dkwX4_both_4 ++ []
def dkwX4_both_3 : List UInt8 := [28, 160, 0, 7, 4, 167, 0, 4, 3, 172, 27, 28, 164, 0, 7, 4, 167, 0, 4, 3, 172, 27, 28, 126]
abbrev dktX4_both_3 : List UInt8 := dkwX4_both_3 ++ dktX4_both_4
def dkwX4_both_2 : List UInt8 := [27, 28, 96, 172, 27, 28, 100, 172, 27, 28, 104, 172, 27, 28, 162, 0, 7, 4, 167, 0, 4, 3, 172, 27]
abbrev dktX4_both_2 : List UInt8 := dkwX4_both_2 ++ dktX4_both_3
def dkwX4_both_1 : List UInt8 := [170, 0, 0, 0, 0, 0, 100, 0, 0, 0, 9, 0, 0, 0, 17, 0, 0, 0, 51, 0, 0, 0, 55, 0, 0, 0, 59, 0, 0, 0, 100, 0, 0, 0, 63, 0, 0, 0, 74, 0, 0, 0, 85, 0, 0, 0, 100, 0, 0, 0, 96]
abbrev dktX4_both_1 : List UInt8 := dkwX4_both_1 ++ dktX4_both_2
def dkwX4_both_0 : List UInt8 := [26]
abbrev dktX4_both_0 : List UInt8 := dkwX4_both_0 ++ dktX4_both_1
theorem dksX4_both_0 : cX4_both.data.toList.drop 0 = dktX4_both_0 := by decide +kernel
theorem dksX4_both_1 : cX4_both.data.toList.drop 1 = dktX4_both_1 := dk_seg dksX4_both_0 1 rfl rfl
theorem dksX4_both_2 : cX4_both.data.toList.drop 52 = dktX4_both_2 := dk_seg dksX4_both_1 51 rfl rfl
theorem dksX4_both_3 : cX4_both.data.toList.drop 76 = dktX4_both_3 := dk_seg dksX4_both_2 24 rfl rfl
theorem dksX4_both_4 : cX4_both.data.toList.drop 100 = dktX4_both_4 := dk_seg dksX4_both_3 24 rfl rfl
theorem dX4_both_0 : decode cX4_both 0 = .ok (.iload_n 0, 1) := dk_26 (dk_at dksX4_both_0 0 rfl rfl)
theorem dX4_both_1 : decode cX4_both 1 = .ok (.tableswitch 100 9 17 #[51, 55, 59, 100, 63, 74, 85, 100, 96], 51) := by decide +kernel
theorem dX4_both_52 : decode cX4_both 52 = .ok (.iload_n 1, 1) := dk_27 (dk_at dksX4_both_2 0 rfl rfl)
theorem dX4_both_53 : decode cX4_both 53 = .ok (.iload_n 2, 1) := dk_28 (dk_at dksX4_both_2 1 rfl rfl)
theorem dX4_both_54 : decode cX4_both 54 = .ok (.iadd, 1) := dk_96 (dk_at dksX4_both_2 2 rfl rfl)
theorem dX4_both_55 : decode cX4_both 55 = .ok (.ireturn, 1) := dk_172 (dk_at dksX4_both_2 3 rfl rfl)
theorem dX4_both_56 : decode cX4_both 56 = .ok (.iload_n 1, 1) := dk_27 (dk_at dksX4_both_2 4 rfl rfl)
theorem dX4_both_57 : decode cX4_both 57 = .ok (.iload_n 2, 1) := dk_28 (dk_at dksX4_both_2 5 rfl rfl)
theorem dX4_both_58 : decode cX4_both 58 = .ok (.isub, 1) := dk_100 (dk_at dksX4_both_2 6 rfl rfl)
theorem dX4_both_59 : decode cX4_both 59 = .ok (.ireturn, 1) := dk_172 (dk_at dksX4_both_2 7 rfl rfl)
theorem dX4_both_60 : decode cX4_both 60 = .ok (.iload_n 1, 1) := dk_27 (dk_at dksX4_both_2 8 rfl rfl)
theorem dX4_both_61 : decode cX4_both 61 = .ok (.iload_n 2, 1) := dk_28 (dk_at dksX4_both_2 9 rfl rfl)
theorem dX4_both_62 : decode cX4_both 62 = .ok (.imul, 1) := dk_104 (dk_at dksX4_both_2 10 rfl rfl)
theorem dX4_both_63 : decode cX4_both 63 = .ok (.ireturn, 1) := dk_172 (dk_at dksX4_both_2 11 rfl rfl)
theorem dX4_both_64 : decode cX4_both 64 = .ok (.iload_n 1, 1) := dk_27 (dk_at dksX4_both_2 12 rfl rfl)
theorem dX4_both_65 : decode cX4_both 65 = .ok (.iload_n 2, 1) := dk_28 (dk_at dksX4_both_2 13 rfl rfl)
theorem dX4_both_66 : decode cX4_both 66 = .ok (.if_icmp .ge 7, 3) := dk_162 0 7 (dk_at dksX4_both_2 14 rfl rfl)
theorem dX4_both_69 : decode cX4_both 69 = .ok (.iconst 1, 1) := dk_4 (dk_at dksX4_both_2 17 rfl rfl)
theorem dX4_both_70 : decode cX4_both 70 = .ok (.goto 4, 3) := dk_167 0 4 (dk_at dksX4_both_2 18 rfl rfl)
theorem dX4_both_73 : decode cX4_both 73 = .ok (.iconst 0, 1) := dk_3 (dk_at dksX4_both_2 21 rfl rfl)
theorem dX4_both_74 : decode cX4_both 74 = .ok (.ireturn, 1) := dk_172 (dk_at dksX4_both_2 22 rfl rfl)
theorem dX4_both_75 : decode cX4_both 75 = .ok (.iload_n 1, 1) := dk_27 (dk_at dksX4_both_2 23 rfl rfl)
theorem dX4_both_76 : decode cX4_both 76 = .ok (.iload_n 2, 1) := dk_28 (dk_at dksX4_both_3 0 rfl rfl)
theorem dX4_both_77 : decode cX4_both 77 = .ok (.if_icmp .ne 7, 3) := dk_160 0 7 (dk_at dksX4_both_3 1 rfl rfl)
theorem dX4_both_80 : decode cX4_both 80 = .ok (.iconst 1, 1) := dk_4 (dk_at dksX4_both_3 4 rfl rfl)
theorem dX4_both_81 : decode cX4_both 81 = .ok (.goto 4, 3) := dk_167 0 4 (dk_at dksX4_both_3 5 rfl rfl)
theorem dX4_both_84 : decode cX4_both 84 = .ok (.iconst 0, 1) := dk_3 (dk_at dksX4_both_3 8 rfl rfl)
theorem dX4_both_85 : decode cX4_both 85 = .ok (.ireturn, 1) := dk_172 (dk_at dksX4_both_3 9 rfl rfl)
theorem dX4_both_86 : decode cX4_both 86 = .ok (.iload_n 1, 1) := dk_27 (dk_at dksX4_both_3 10 rfl rfl)
theorem dX4_both_87 : decode cX4_both 87 = .ok (.iload_n 2, 1) := dk_28 (dk_at dksX4_both_3 11 rfl rfl)
theorem dX4_both_88 : decode cX4_both 88 = .ok (.if_icmp .le 7, 3) := dk_164 0 7 (dk_at dksX4_both_3 12 rfl rfl)
theorem dX4_both_91 : decode cX4_both 91 = .ok (.iconst 1, 1) := dk_4 (dk_at dksX4_both_3 15 rfl rfl)
theorem dX4_both_92 : decode cX4_both 92 = .ok (.goto 4, 3) := dk_167 0 4 (dk_at dksX4_both_3 16 rfl rfl)
theorem dX4_both_95 : decode cX4_both 95 = .ok (.iconst 0, 1) := dk_3 (dk_at dksX4_both_3 19 rfl rfl)
theorem dX4_both_96 : decode cX4_both 96 = .ok (.ireturn, 1) := dk_172 (dk_at dksX4_both_3 20 rfl rfl)
theorem dX4_both_97 : decode cX4_both 97 = .ok (.iload_n 1, 1) := dk_27 (dk_at dksX4_both_3 21 rfl rfl)
theorem dX4_both_98 : decode cX4_both 98 = .ok (.iload_n 2, 1) := dk_28 (dk_at dksX4_both_3 22 rfl rfl)
theorem dX4_both_99 : decode cX4_both 99 = .ok (.iand, 1) := dk_126 (dk_at dksX4_both_3 23 rfl rfl)
theorem dX4_both_100 : decode cX4_both 100 = .ok (.ireturn, 1) := dk_172 (dk_at dksX4_both_4 0 rfl rfl)
theorem dX4_both_101 : decode cX4_both 101 = .ok (.iload_n 1, 1) := dk_27 (dk_at dksX4_both_4 1 rfl rfl)
theorem dX4_both_102 : decode cX4_both 102 = .ok (.iload_n 2, 1) := dk_28 (dk_at dksX4_both_4 2 rfl rfl)
theorem dX4_both_103 : decode cX4_both 103 = .ok (.ior, 1) := dk_128 (dk_at dksX4_both_4 3 rfl rfl)
theorem dX4_both_104 : decode cX4_both 104 = .ok (.ireturn, 1) := dk_172 (dk_at dksX4_both_4 4 rfl rfl)
abbrev cX4_leaves : ByteArray := prog_23_method_49_code
def yX4_leaves : MethodName := ⟨RX4, "leaves", "(II)I"⟩
def dkwX4_leaves_6 : List UInt8 := [29, 172]
abbrev dktX4_leaves_6 : List UInt8 := dkwX4_leaves_6 ++ []
def dkwX4_leaves_5 : List UInt8 := [21, 7, 167, 0, 4, 29, 62, 132, 4, 1, 167, 255, 134, 29, 16, 100, 164, 0, 8, 16, 100, 167, 0, 4]
abbrev dktX4_leaves_5 : List UInt8 := dkwX4_leaves_5 ++ dktX4_leaves_6
def dkwX4_leaves_4 : List UInt8 := [180, 0, 72, 16, 21, 27, 104, 21, 4, 96, 46, 21, 5, 182, 1, 183, 54, 7, 21, 7, 29, 164, 0, 8]
abbrev dktX4_leaves_4 : List UInt8 := dkwX4_leaves_4 ++ dktX4_leaves_5
def dkwX4_leaves_3 : List UInt8 := [162, 0, 20, 42, 27, 28, 21, 5, 21, 6, 182, 1, 183, 4, 159, 0, 6, 167, 0, 38, 42, 27, 28, 42]
abbrev dktX4_leaves_3 : List UInt8 := dkwX4_leaves_3 ++ dktX4_leaves_4
def dkwX4_leaves_2 : List UInt8 := [54, 5, 42, 180, 0, 72, 16, 21, 27, 104, 21, 4, 96, 4, 96, 46, 54, 6, 21, 5, 21, 6]
abbrev dktX4_leaves_2 : List UInt8 := dkwX4_leaves_2 ++ dktX4_leaves_3
def dkwX4_leaves_1 : List UInt8 := [21, 4, 96, 46, 6, 159, 0, 6, 167, 0, 92, 42, 180, 0, 75, 16, 20, 27, 104, 21, 4, 96, 46]
abbrev dktX4_leaves_1 : List UInt8 := dkwX4_leaves_1 ++ dktX4_leaves_2
def dkwX4_leaves_0 : List UInt8 := [3, 62, 3, 54, 4, 21, 4, 42, 180, 0, 57, 27, 46, 162, 0, 117, 42, 180, 0, 69, 16, 20, 27, 104]
abbrev dktX4_leaves_0 : List UInt8 := dkwX4_leaves_0 ++ dktX4_leaves_1
theorem dksX4_leaves_0 : cX4_leaves.data.toList.drop 0 = dktX4_leaves_0 := by decide +kernel
theorem dksX4_leaves_1 : cX4_leaves.data.toList.drop 24 = dktX4_leaves_1 := dk_seg dksX4_leaves_0 24 rfl rfl
theorem dksX4_leaves_2 : cX4_leaves.data.toList.drop 47 = dktX4_leaves_2 := dk_seg dksX4_leaves_1 23 rfl rfl
theorem dksX4_leaves_3 : cX4_leaves.data.toList.drop 69 = dktX4_leaves_3 := dk_seg dksX4_leaves_2 22 rfl rfl
theorem dksX4_leaves_4 : cX4_leaves.data.toList.drop 93 = dktX4_leaves_4 := dk_seg dksX4_leaves_3 24 rfl rfl
theorem dksX4_leaves_5 : cX4_leaves.data.toList.drop 117 = dktX4_leaves_5 := dk_seg dksX4_leaves_4 24 rfl rfl
theorem dksX4_leaves_6 : cX4_leaves.data.toList.drop 141 = dktX4_leaves_6 := dk_seg dksX4_leaves_5 24 rfl rfl
theorem dX4_leaves_0 : decode cX4_leaves 0 = .ok (.iconst 0, 1) := dk_3 (dk_at dksX4_leaves_0 0 rfl rfl)
theorem dX4_leaves_1 : decode cX4_leaves 1 = .ok (.istore_n 3, 1) := dk_62 (dk_at dksX4_leaves_0 1 rfl rfl)
theorem dX4_leaves_2 : decode cX4_leaves 2 = .ok (.iconst 0, 1) := dk_3 (dk_at dksX4_leaves_0 2 rfl rfl)
theorem dX4_leaves_3 : decode cX4_leaves 3 = .ok (.istore 4, 2) := dk_54 4 (dk_at dksX4_leaves_0 3 rfl rfl)
theorem dX4_leaves_5 : decode cX4_leaves 5 = .ok (.iload 4, 2) := dk_21 4 (dk_at dksX4_leaves_0 5 rfl rfl)
theorem dX4_leaves_7 : decode cX4_leaves 7 = .ok (.aload_n 0, 1) := dk_42 (dk_at dksX4_leaves_0 7 rfl rfl)
theorem dX4_leaves_8 : decode cX4_leaves 8 = .ok (.getfield 57, 3) := dk_180 0 57 (dk_at dksX4_leaves_0 8 rfl rfl)
theorem dX4_leaves_11 : decode cX4_leaves 11 = .ok (.iload_n 1, 1) := dk_27 (dk_at dksX4_leaves_0 11 rfl rfl)
theorem dX4_leaves_12 : decode cX4_leaves 12 = .ok (.iaload, 1) := dk_46 (dk_at dksX4_leaves_0 12 rfl rfl)
theorem dX4_leaves_13 : decode cX4_leaves 13 = .ok (.if_icmp .ge 117, 3) := dk_162 0 117 (dk_at dksX4_leaves_0 13 rfl rfl)
theorem dX4_leaves_16 : decode cX4_leaves 16 = .ok (.aload_n 0, 1) := dk_42 (dk_at dksX4_leaves_0 16 rfl rfl)
theorem dX4_leaves_17 : decode cX4_leaves 17 = .ok (.getfield 69, 3) := dk_180 0 69 (dk_at dksX4_leaves_0 17 rfl rfl)
theorem dX4_leaves_20 : decode cX4_leaves 20 = .ok (.bipush 20, 2) := dk_16 20 (dk_at dksX4_leaves_0 20 rfl rfl)
theorem dX4_leaves_22 : decode cX4_leaves 22 = .ok (.iload_n 1, 1) := dk_27 (dk_at dksX4_leaves_0 22 rfl rfl)
theorem dX4_leaves_23 : decode cX4_leaves 23 = .ok (.imul, 1) := dk_104 (dk_at dksX4_leaves_0 23 rfl rfl)
theorem dX4_leaves_24 : decode cX4_leaves 24 = .ok (.iload 4, 2) := dk_21 4 (dk_at dksX4_leaves_1 0 rfl rfl)
theorem dX4_leaves_26 : decode cX4_leaves 26 = .ok (.iadd, 1) := dk_96 (dk_at dksX4_leaves_1 2 rfl rfl)
theorem dX4_leaves_27 : decode cX4_leaves 27 = .ok (.iaload, 1) := dk_46 (dk_at dksX4_leaves_1 3 rfl rfl)
theorem dX4_leaves_28 : decode cX4_leaves 28 = .ok (.iconst 3, 1) := dk_6 (dk_at dksX4_leaves_1 4 rfl rfl)
theorem dX4_leaves_29 : decode cX4_leaves 29 = .ok (.if_icmp .eq 6, 3) := dk_159 0 6 (dk_at dksX4_leaves_1 5 rfl rfl)
theorem dX4_leaves_32 : decode cX4_leaves 32 = .ok (.goto 92, 3) := dk_167 0 92 (dk_at dksX4_leaves_1 8 rfl rfl)
theorem dX4_leaves_35 : decode cX4_leaves 35 = .ok (.aload_n 0, 1) := dk_42 (dk_at dksX4_leaves_1 11 rfl rfl)
theorem dX4_leaves_36 : decode cX4_leaves 36 = .ok (.getfield 75, 3) := dk_180 0 75 (dk_at dksX4_leaves_1 12 rfl rfl)
theorem dX4_leaves_39 : decode cX4_leaves 39 = .ok (.bipush 20, 2) := dk_16 20 (dk_at dksX4_leaves_1 15 rfl rfl)
theorem dX4_leaves_41 : decode cX4_leaves 41 = .ok (.iload_n 1, 1) := dk_27 (dk_at dksX4_leaves_1 17 rfl rfl)
theorem dX4_leaves_42 : decode cX4_leaves 42 = .ok (.imul, 1) := dk_104 (dk_at dksX4_leaves_1 18 rfl rfl)
theorem dX4_leaves_43 : decode cX4_leaves 43 = .ok (.iload 4, 2) := dk_21 4 (dk_at dksX4_leaves_1 19 rfl rfl)
theorem dX4_leaves_45 : decode cX4_leaves 45 = .ok (.iadd, 1) := dk_96 (dk_at dksX4_leaves_1 21 rfl rfl)
theorem dX4_leaves_46 : decode cX4_leaves 46 = .ok (.iaload, 1) := dk_46 (dk_at dksX4_leaves_1 22 rfl rfl)
theorem dX4_leaves_47 : decode cX4_leaves 47 = .ok (.istore 5, 2) := dk_54 5 (dk_at dksX4_leaves_2 0 rfl rfl)
theorem dX4_leaves_49 : decode cX4_leaves 49 = .ok (.aload_n 0, 1) := dk_42 (dk_at dksX4_leaves_2 2 rfl rfl)
theorem dX4_leaves_50 : decode cX4_leaves 50 = .ok (.getfield 72, 3) := dk_180 0 72 (dk_at dksX4_leaves_2 3 rfl rfl)
theorem dX4_leaves_53 : decode cX4_leaves 53 = .ok (.bipush 21, 2) := dk_16 21 (dk_at dksX4_leaves_2 6 rfl rfl)
theorem dX4_leaves_55 : decode cX4_leaves 55 = .ok (.iload_n 1, 1) := dk_27 (dk_at dksX4_leaves_2 8 rfl rfl)
theorem dX4_leaves_56 : decode cX4_leaves 56 = .ok (.imul, 1) := dk_104 (dk_at dksX4_leaves_2 9 rfl rfl)
theorem dX4_leaves_57 : decode cX4_leaves 57 = .ok (.iload 4, 2) := dk_21 4 (dk_at dksX4_leaves_2 10 rfl rfl)
theorem dX4_leaves_59 : decode cX4_leaves 59 = .ok (.iadd, 1) := dk_96 (dk_at dksX4_leaves_2 12 rfl rfl)
theorem dX4_leaves_60 : decode cX4_leaves 60 = .ok (.iconst 1, 1) := dk_4 (dk_at dksX4_leaves_2 13 rfl rfl)
theorem dX4_leaves_61 : decode cX4_leaves 61 = .ok (.iadd, 1) := dk_96 (dk_at dksX4_leaves_2 14 rfl rfl)
theorem dX4_leaves_62 : decode cX4_leaves 62 = .ok (.iaload, 1) := dk_46 (dk_at dksX4_leaves_2 15 rfl rfl)
theorem dX4_leaves_63 : decode cX4_leaves 63 = .ok (.istore 6, 2) := dk_54 6 (dk_at dksX4_leaves_2 16 rfl rfl)
theorem dX4_leaves_65 : decode cX4_leaves 65 = .ok (.iload 5, 2) := dk_21 5 (dk_at dksX4_leaves_2 18 rfl rfl)
theorem dX4_leaves_67 : decode cX4_leaves 67 = .ok (.iload 6, 2) := dk_21 6 (dk_at dksX4_leaves_2 20 rfl rfl)
theorem dX4_leaves_69 : decode cX4_leaves 69 = .ok (.if_icmp .ge 20, 3) := dk_162 0 20 (dk_at dksX4_leaves_3 0 rfl rfl)
theorem dX4_leaves_72 : decode cX4_leaves 72 = .ok (.aload_n 0, 1) := dk_42 (dk_at dksX4_leaves_3 3 rfl rfl)
theorem dX4_leaves_73 : decode cX4_leaves 73 = .ok (.iload_n 1, 1) := dk_27 (dk_at dksX4_leaves_3 4 rfl rfl)
theorem dX4_leaves_74 : decode cX4_leaves 74 = .ok (.iload_n 2, 1) := dk_28 (dk_at dksX4_leaves_3 5 rfl rfl)
theorem dX4_leaves_75 : decode cX4_leaves 75 = .ok (.iload 5, 2) := dk_21 5 (dk_at dksX4_leaves_3 6 rfl rfl)
theorem dX4_leaves_77 : decode cX4_leaves 77 = .ok (.iload 6, 2) := dk_21 6 (dk_at dksX4_leaves_3 8 rfl rfl)
theorem dX4_leaves_79 : decode cX4_leaves 79 = .ok (.invokevirtual 439, 3) := dk_182 1 183 (dk_at dksX4_leaves_3 10 rfl rfl)
theorem dX4_leaves_82 : decode cX4_leaves 82 = .ok (.iconst 1, 1) := dk_4 (dk_at dksX4_leaves_3 13 rfl rfl)
theorem dX4_leaves_83 : decode cX4_leaves 83 = .ok (.if_icmp .eq 6, 3) := dk_159 0 6 (dk_at dksX4_leaves_3 14 rfl rfl)
theorem dX4_leaves_86 : decode cX4_leaves 86 = .ok (.goto 38, 3) := dk_167 0 38 (dk_at dksX4_leaves_3 17 rfl rfl)
theorem dX4_leaves_89 : decode cX4_leaves 89 = .ok (.aload_n 0, 1) := dk_42 (dk_at dksX4_leaves_3 20 rfl rfl)
theorem dX4_leaves_90 : decode cX4_leaves 90 = .ok (.iload_n 1, 1) := dk_27 (dk_at dksX4_leaves_3 21 rfl rfl)
theorem dX4_leaves_91 : decode cX4_leaves 91 = .ok (.iload_n 2, 1) := dk_28 (dk_at dksX4_leaves_3 22 rfl rfl)
theorem dX4_leaves_92 : decode cX4_leaves 92 = .ok (.aload_n 0, 1) := dk_42 (dk_at dksX4_leaves_3 23 rfl rfl)
theorem dX4_leaves_93 : decode cX4_leaves 93 = .ok (.getfield 72, 3) := dk_180 0 72 (dk_at dksX4_leaves_4 0 rfl rfl)
theorem dX4_leaves_96 : decode cX4_leaves 96 = .ok (.bipush 21, 2) := dk_16 21 (dk_at dksX4_leaves_4 3 rfl rfl)
theorem dX4_leaves_98 : decode cX4_leaves 98 = .ok (.iload_n 1, 1) := dk_27 (dk_at dksX4_leaves_4 5 rfl rfl)
theorem dX4_leaves_99 : decode cX4_leaves 99 = .ok (.imul, 1) := dk_104 (dk_at dksX4_leaves_4 6 rfl rfl)
theorem dX4_leaves_100 : decode cX4_leaves 100 = .ok (.iload 4, 2) := dk_21 4 (dk_at dksX4_leaves_4 7 rfl rfl)
theorem dX4_leaves_102 : decode cX4_leaves 102 = .ok (.iadd, 1) := dk_96 (dk_at dksX4_leaves_4 9 rfl rfl)
theorem dX4_leaves_103 : decode cX4_leaves 103 = .ok (.iaload, 1) := dk_46 (dk_at dksX4_leaves_4 10 rfl rfl)
theorem dX4_leaves_104 : decode cX4_leaves 104 = .ok (.iload 5, 2) := dk_21 5 (dk_at dksX4_leaves_4 11 rfl rfl)
theorem dX4_leaves_106 : decode cX4_leaves 106 = .ok (.invokevirtual 439, 3) := dk_182 1 183 (dk_at dksX4_leaves_4 13 rfl rfl)
theorem dX4_leaves_109 : decode cX4_leaves 109 = .ok (.istore 7, 2) := dk_54 7 (dk_at dksX4_leaves_4 16 rfl rfl)
theorem dX4_leaves_111 : decode cX4_leaves 111 = .ok (.iload 7, 2) := dk_21 7 (dk_at dksX4_leaves_4 18 rfl rfl)
theorem dX4_leaves_113 : decode cX4_leaves 113 = .ok (.iload_n 3, 1) := dk_29 (dk_at dksX4_leaves_4 20 rfl rfl)
theorem dX4_leaves_114 : decode cX4_leaves 114 = .ok (.if_icmp .le 8, 3) := dk_164 0 8 (dk_at dksX4_leaves_4 21 rfl rfl)
theorem dX4_leaves_117 : decode cX4_leaves 117 = .ok (.iload 7, 2) := dk_21 7 (dk_at dksX4_leaves_5 0 rfl rfl)
theorem dX4_leaves_119 : decode cX4_leaves 119 = .ok (.goto 4, 3) := dk_167 0 4 (dk_at dksX4_leaves_5 2 rfl rfl)
theorem dX4_leaves_122 : decode cX4_leaves 122 = .ok (.iload_n 3, 1) := dk_29 (dk_at dksX4_leaves_5 5 rfl rfl)
theorem dX4_leaves_123 : decode cX4_leaves 123 = .ok (.istore_n 3, 1) := dk_62 (dk_at dksX4_leaves_5 6 rfl rfl)
theorem dX4_leaves_124 : decode cX4_leaves 124 = .ok (.iinc 4 1, 3) := dk_132 4 1 (dk_at dksX4_leaves_5 7 rfl rfl)
theorem dX4_leaves_127 : decode cX4_leaves 127 = .ok (.goto (-122), 3) := dk_167 255 134 (dk_at dksX4_leaves_5 10 rfl rfl)
theorem dX4_leaves_130 : decode cX4_leaves 130 = .ok (.iload_n 3, 1) := dk_29 (dk_at dksX4_leaves_5 13 rfl rfl)
theorem dX4_leaves_131 : decode cX4_leaves 131 = .ok (.bipush 100, 2) := dk_16 100 (dk_at dksX4_leaves_5 14 rfl rfl)
theorem dX4_leaves_133 : decode cX4_leaves 133 = .ok (.if_icmp .le 8, 3) := dk_164 0 8 (dk_at dksX4_leaves_5 16 rfl rfl)
theorem dX4_leaves_136 : decode cX4_leaves 136 = .ok (.bipush 100, 2) := dk_16 100 (dk_at dksX4_leaves_5 19 rfl rfl)
theorem dX4_leaves_138 : decode cX4_leaves 138 = .ok (.goto 4, 3) := dk_167 0 4 (dk_at dksX4_leaves_5 21 rfl rfl)
theorem dX4_leaves_141 : decode cX4_leaves 141 = .ok (.iload_n 3, 1) := dk_29 (dk_at dksX4_leaves_6 0 rfl rfl)
theorem dX4_leaves_142 : decode cX4_leaves 142 = .ok (.ireturn, 1) := dk_172 (dk_at dksX4_leaves_6 1 rfl rfl)
abbrev cX4_unitsLeft : ByteArray := prog_23_method_50_code
def yX4_unitsLeft : MethodName := ⟨RX4, "unitsLeft", "(II)I"⟩
def dkwX4_unitsLeft_0 : List UInt8 := [42, 180, 0, 32, 28, 46, 42, 27, 28, 182, 1, 187, 104, 16, 99, 96, 16, 100, 108, 172]
abbrev dktX4_unitsLeft_0 : List UInt8 := dkwX4_unitsLeft_0 ++ []
theorem dksX4_unitsLeft_0 : cX4_unitsLeft.data.toList.drop 0 = dktX4_unitsLeft_0 := by decide +kernel
theorem dX4_unitsLeft_0 : decode cX4_unitsLeft 0 = .ok (.aload_n 0, 1) := dk_42 (dk_at dksX4_unitsLeft_0 0 rfl rfl)
theorem dX4_unitsLeft_1 : decode cX4_unitsLeft 1 = .ok (.getfield 32, 3) := dk_180 0 32 (dk_at dksX4_unitsLeft_0 1 rfl rfl)
theorem dX4_unitsLeft_4 : decode cX4_unitsLeft 4 = .ok (.iload_n 2, 1) := dk_28 (dk_at dksX4_unitsLeft_0 4 rfl rfl)
theorem dX4_unitsLeft_5 : decode cX4_unitsLeft 5 = .ok (.iaload, 1) := dk_46 (dk_at dksX4_unitsLeft_0 5 rfl rfl)
theorem dX4_unitsLeft_6 : decode cX4_unitsLeft 6 = .ok (.aload_n 0, 1) := dk_42 (dk_at dksX4_unitsLeft_0 6 rfl rfl)
theorem dX4_unitsLeft_7 : decode cX4_unitsLeft 7 = .ok (.iload_n 1, 1) := dk_27 (dk_at dksX4_unitsLeft_0 7 rfl rfl)
theorem dX4_unitsLeft_8 : decode cX4_unitsLeft 8 = .ok (.iload_n 2, 1) := dk_28 (dk_at dksX4_unitsLeft_0 8 rfl rfl)
theorem dX4_unitsLeft_9 : decode cX4_unitsLeft 9 = .ok (.invokevirtual 443, 3) := dk_182 1 187 (dk_at dksX4_unitsLeft_0 9 rfl rfl)
theorem dX4_unitsLeft_12 : decode cX4_unitsLeft 12 = .ok (.imul, 1) := dk_104 (dk_at dksX4_unitsLeft_0 12 rfl rfl)
theorem dX4_unitsLeft_13 : decode cX4_unitsLeft 13 = .ok (.bipush 99, 2) := dk_16 99 (dk_at dksX4_unitsLeft_0 13 rfl rfl)
theorem dX4_unitsLeft_15 : decode cX4_unitsLeft 15 = .ok (.iadd, 1) := dk_96 (dk_at dksX4_unitsLeft_0 15 rfl rfl)
theorem dX4_unitsLeft_16 : decode cX4_unitsLeft 16 = .ok (.bipush 100, 2) := dk_16 100 (dk_at dksX4_unitsLeft_0 16 rfl rfl)
theorem dX4_unitsLeft_18 : decode cX4_unitsLeft 18 = .ok (.idiv, 1) := dk_108 (dk_at dksX4_unitsLeft_0 18 rfl rfl)
theorem dX4_unitsLeft_19 : decode cX4_unitsLeft 19 = .ok (.ireturn, 1) := dk_172 (dk_at dksX4_unitsLeft_0 19 rfl rfl)
abbrev cX4_ladder : ByteArray := prog_23_method_52_code
def yX4_ladder : MethodName := ⟨RX4, "ladder", "(II)I"⟩
def dkwX4_ladder_2 : List UInt8 := [180, 1, 197, 28, 79, 42, 89, 180, 1, 197, 4, 96, 181, 1, 197, 42, 180, 1, 197, 4, 100, 172]
abbrev dktX4_ladder_2 : List UInt8 := dkwX4_ladder_2 ++ []
def dkwX4_ladder_1 : List UInt8 := [180, 1, 197, 7, 160, 0, 5, 2, 172, 42, 180, 0, 108, 42, 180, 1, 197, 27, 79, 42, 180, 0, 111, 42]
abbrev dktX4_ladder_1 : List UInt8 := dkwX4_ladder_1 ++ dktX4_ladder_2
def dkwX4_ladder_0 : List UInt8 := [27, 4, 16, 99, 184, 0, 244, 153, 0, 23, 28, 3, 42, 182, 0, 237, 184, 0, 244, 153, 0, 11, 42]
abbrev dktX4_ladder_0 : List UInt8 := dkwX4_ladder_0 ++ dktX4_ladder_1
theorem dksX4_ladder_0 : cX4_ladder.data.toList.drop 0 = dktX4_ladder_0 := by decide +kernel
theorem dksX4_ladder_1 : cX4_ladder.data.toList.drop 23 = dktX4_ladder_1 := dk_seg dksX4_ladder_0 23 rfl rfl
theorem dksX4_ladder_2 : cX4_ladder.data.toList.drop 47 = dktX4_ladder_2 := dk_seg dksX4_ladder_1 24 rfl rfl
theorem dX4_ladder_0 : decode cX4_ladder 0 = .ok (.iload_n 1, 1) := dk_27 (dk_at dksX4_ladder_0 0 rfl rfl)
theorem dX4_ladder_1 : decode cX4_ladder 1 = .ok (.iconst 1, 1) := dk_4 (dk_at dksX4_ladder_0 1 rfl rfl)
theorem dX4_ladder_2 : decode cX4_ladder 2 = .ok (.bipush 99, 2) := dk_16 99 (dk_at dksX4_ladder_0 2 rfl rfl)
theorem dX4_ladder_4 : decode cX4_ladder 4 = .ok (.invokestatic 244, 3) := dk_184 0 244 (dk_at dksX4_ladder_0 4 rfl rfl)
theorem dX4_ladder_7 : decode cX4_ladder 7 = .ok (.ifCond .eq 23, 3) := dk_153 0 23 (dk_at dksX4_ladder_0 7 rfl rfl)
theorem dX4_ladder_10 : decode cX4_ladder 10 = .ok (.iload_n 2, 1) := dk_28 (dk_at dksX4_ladder_0 10 rfl rfl)
theorem dX4_ladder_11 : decode cX4_ladder 11 = .ok (.iconst 0, 1) := dk_3 (dk_at dksX4_ladder_0 11 rfl rfl)
theorem dX4_ladder_12 : decode cX4_ladder 12 = .ok (.aload_n 0, 1) := dk_42 (dk_at dksX4_ladder_0 12 rfl rfl)
theorem dX4_ladder_13 : decode cX4_ladder 13 = .ok (.invokevirtual 237, 3) := dk_182 0 237 (dk_at dksX4_ladder_0 13 rfl rfl)
theorem dX4_ladder_16 : decode cX4_ladder 16 = .ok (.invokestatic 244, 3) := dk_184 0 244 (dk_at dksX4_ladder_0 16 rfl rfl)
theorem dX4_ladder_19 : decode cX4_ladder 19 = .ok (.ifCond .eq 11, 3) := dk_153 0 11 (dk_at dksX4_ladder_0 19 rfl rfl)
theorem dX4_ladder_22 : decode cX4_ladder 22 = .ok (.aload_n 0, 1) := dk_42 (dk_at dksX4_ladder_0 22 rfl rfl)
theorem dX4_ladder_23 : decode cX4_ladder 23 = .ok (.getfield 453, 3) := dk_180 1 197 (dk_at dksX4_ladder_1 0 rfl rfl)
theorem dX4_ladder_26 : decode cX4_ladder 26 = .ok (.iconst 4, 1) := dk_7 (dk_at dksX4_ladder_1 3 rfl rfl)
theorem dX4_ladder_27 : decode cX4_ladder 27 = .ok (.if_icmp .ne 5, 3) := dk_160 0 5 (dk_at dksX4_ladder_1 4 rfl rfl)
theorem dX4_ladder_30 : decode cX4_ladder 30 = .ok (.iconst (-1), 1) := dk_2 (dk_at dksX4_ladder_1 7 rfl rfl)
theorem dX4_ladder_31 : decode cX4_ladder 31 = .ok (.ireturn, 1) := dk_172 (dk_at dksX4_ladder_1 8 rfl rfl)
theorem dX4_ladder_32 : decode cX4_ladder 32 = .ok (.aload_n 0, 1) := dk_42 (dk_at dksX4_ladder_1 9 rfl rfl)
theorem dX4_ladder_33 : decode cX4_ladder 33 = .ok (.getfield 108, 3) := dk_180 0 108 (dk_at dksX4_ladder_1 10 rfl rfl)
theorem dX4_ladder_36 : decode cX4_ladder 36 = .ok (.aload_n 0, 1) := dk_42 (dk_at dksX4_ladder_1 13 rfl rfl)
theorem dX4_ladder_37 : decode cX4_ladder 37 = .ok (.getfield 453, 3) := dk_180 1 197 (dk_at dksX4_ladder_1 14 rfl rfl)
theorem dX4_ladder_40 : decode cX4_ladder 40 = .ok (.iload_n 1, 1) := dk_27 (dk_at dksX4_ladder_1 17 rfl rfl)
theorem dX4_ladder_41 : decode cX4_ladder 41 = .ok (.iastore, 1) := dk_79 (dk_at dksX4_ladder_1 18 rfl rfl)
theorem dX4_ladder_42 : decode cX4_ladder 42 = .ok (.aload_n 0, 1) := dk_42 (dk_at dksX4_ladder_1 19 rfl rfl)
theorem dX4_ladder_43 : decode cX4_ladder 43 = .ok (.getfield 111, 3) := dk_180 0 111 (dk_at dksX4_ladder_1 20 rfl rfl)
theorem dX4_ladder_46 : decode cX4_ladder 46 = .ok (.aload_n 0, 1) := dk_42 (dk_at dksX4_ladder_1 23 rfl rfl)
theorem dX4_ladder_47 : decode cX4_ladder 47 = .ok (.getfield 453, 3) := dk_180 1 197 (dk_at dksX4_ladder_2 0 rfl rfl)
theorem dX4_ladder_50 : decode cX4_ladder 50 = .ok (.iload_n 2, 1) := dk_28 (dk_at dksX4_ladder_2 3 rfl rfl)
theorem dX4_ladder_51 : decode cX4_ladder 51 = .ok (.iastore, 1) := dk_79 (dk_at dksX4_ladder_2 4 rfl rfl)
theorem dX4_ladder_52 : decode cX4_ladder 52 = .ok (.aload_n 0, 1) := dk_42 (dk_at dksX4_ladder_2 5 rfl rfl)
theorem dX4_ladder_53 : decode cX4_ladder 53 = .ok (.dup, 1) := dk_89 (dk_at dksX4_ladder_2 6 rfl rfl)
theorem dX4_ladder_54 : decode cX4_ladder 54 = .ok (.getfield 453, 3) := dk_180 1 197 (dk_at dksX4_ladder_2 7 rfl rfl)
theorem dX4_ladder_57 : decode cX4_ladder 57 = .ok (.iconst 1, 1) := dk_4 (dk_at dksX4_ladder_2 10 rfl rfl)
theorem dX4_ladder_58 : decode cX4_ladder 58 = .ok (.iadd, 1) := dk_96 (dk_at dksX4_ladder_2 11 rfl rfl)
theorem dX4_ladder_59 : decode cX4_ladder 59 = .ok (.putfield 453, 3) := dk_181 1 197 (dk_at dksX4_ladder_2 12 rfl rfl)
theorem dX4_ladder_62 : decode cX4_ladder 62 = .ok (.aload_n 0, 1) := dk_42 (dk_at dksX4_ladder_2 15 rfl rfl)
theorem dX4_ladder_63 : decode cX4_ladder 63 = .ok (.getfield 453, 3) := dk_180 1 197 (dk_at dksX4_ladder_2 16 rfl rfl)
theorem dX4_ladder_66 : decode cX4_ladder 66 = .ok (.iconst 1, 1) := dk_4 (dk_at dksX4_ladder_2 19 rfl rfl)
theorem dX4_ladder_67 : decode cX4_ladder 67 = .ok (.isub, 1) := dk_100 (dk_at dksX4_ladder_2 20 rfl rfl)
theorem dX4_ladder_68 : decode cX4_ladder 68 = .ok (.ireturn, 1) := dk_172 (dk_at dksX4_ladder_2 21 rfl rfl)
abbrev cX4_rung : ByteArray := prog_23_method_56_code
def yX4_rung : MethodName := ⟨RX4, "rung", "(II)I"⟩
def dkwX4_rung_2 : List UInt8 := [182, 1, 206, 167, 0, 4, 2, 172]
abbrev dktX4_rung_2 : List UInt8 := dkwX4_rung_2 ++ []
def dkwX4_rung_1 : List UInt8 := [167, 0, 30, 28, 4, 160, 0, 11, 42, 27, 182, 1, 200, 167, 0, 17, 28, 5, 160, 0, 11, 42, 27]
abbrev dktX4_rung_1 : List UInt8 := dkwX4_rung_1 ++ dktX4_rung_2
def dkwX4_rung_0 : List UInt8 := [42, 27, 182, 1, 203, 154, 0, 7, 2, 167, 0, 43, 28, 154, 0, 12, 42, 180, 0, 108, 27, 46]
abbrev dktX4_rung_0 : List UInt8 := dkwX4_rung_0 ++ dktX4_rung_1
theorem dksX4_rung_0 : cX4_rung.data.toList.drop 0 = dktX4_rung_0 := by decide +kernel
theorem dksX4_rung_1 : cX4_rung.data.toList.drop 22 = dktX4_rung_1 := dk_seg dksX4_rung_0 22 rfl rfl
theorem dksX4_rung_2 : cX4_rung.data.toList.drop 45 = dktX4_rung_2 := dk_seg dksX4_rung_1 23 rfl rfl
theorem dX4_rung_0 : decode cX4_rung 0 = .ok (.aload_n 0, 1) := dk_42 (dk_at dksX4_rung_0 0 rfl rfl)
theorem dX4_rung_1 : decode cX4_rung 1 = .ok (.iload_n 1, 1) := dk_27 (dk_at dksX4_rung_0 1 rfl rfl)
theorem dX4_rung_2 : decode cX4_rung 2 = .ok (.invokevirtual 459, 3) := dk_182 1 203 (dk_at dksX4_rung_0 2 rfl rfl)
theorem dX4_rung_5 : decode cX4_rung 5 = .ok (.ifCond .ne 7, 3) := dk_154 0 7 (dk_at dksX4_rung_0 5 rfl rfl)
theorem dX4_rung_8 : decode cX4_rung 8 = .ok (.iconst (-1), 1) := dk_2 (dk_at dksX4_rung_0 8 rfl rfl)
theorem dX4_rung_9 : decode cX4_rung 9 = .ok (.goto 43, 3) := dk_167 0 43 (dk_at dksX4_rung_0 9 rfl rfl)
theorem dX4_rung_12 : decode cX4_rung 12 = .ok (.iload_n 2, 1) := dk_28 (dk_at dksX4_rung_0 12 rfl rfl)
theorem dX4_rung_13 : decode cX4_rung 13 = .ok (.ifCond .ne 12, 3) := dk_154 0 12 (dk_at dksX4_rung_0 13 rfl rfl)
theorem dX4_rung_16 : decode cX4_rung 16 = .ok (.aload_n 0, 1) := dk_42 (dk_at dksX4_rung_0 16 rfl rfl)
theorem dX4_rung_17 : decode cX4_rung 17 = .ok (.getfield 108, 3) := dk_180 0 108 (dk_at dksX4_rung_0 17 rfl rfl)
theorem dX4_rung_20 : decode cX4_rung 20 = .ok (.iload_n 1, 1) := dk_27 (dk_at dksX4_rung_0 20 rfl rfl)
theorem dX4_rung_21 : decode cX4_rung 21 = .ok (.iaload, 1) := dk_46 (dk_at dksX4_rung_0 21 rfl rfl)
theorem dX4_rung_22 : decode cX4_rung 22 = .ok (.goto 30, 3) := dk_167 0 30 (dk_at dksX4_rung_1 0 rfl rfl)
theorem dX4_rung_25 : decode cX4_rung 25 = .ok (.iload_n 2, 1) := dk_28 (dk_at dksX4_rung_1 3 rfl rfl)
theorem dX4_rung_26 : decode cX4_rung 26 = .ok (.iconst 1, 1) := dk_4 (dk_at dksX4_rung_1 4 rfl rfl)
theorem dX4_rung_27 : decode cX4_rung 27 = .ok (.if_icmp .ne 11, 3) := dk_160 0 11 (dk_at dksX4_rung_1 5 rfl rfl)
theorem dX4_rung_30 : decode cX4_rung 30 = .ok (.aload_n 0, 1) := dk_42 (dk_at dksX4_rung_1 8 rfl rfl)
theorem dX4_rung_31 : decode cX4_rung 31 = .ok (.iload_n 1, 1) := dk_27 (dk_at dksX4_rung_1 9 rfl rfl)
theorem dX4_rung_32 : decode cX4_rung 32 = .ok (.invokevirtual 456, 3) := dk_182 1 200 (dk_at dksX4_rung_1 10 rfl rfl)
theorem dX4_rung_35 : decode cX4_rung 35 = .ok (.goto 17, 3) := dk_167 0 17 (dk_at dksX4_rung_1 13 rfl rfl)
theorem dX4_rung_38 : decode cX4_rung 38 = .ok (.iload_n 2, 1) := dk_28 (dk_at dksX4_rung_1 16 rfl rfl)
theorem dX4_rung_39 : decode cX4_rung 39 = .ok (.iconst 2, 1) := dk_5 (dk_at dksX4_rung_1 17 rfl rfl)
theorem dX4_rung_40 : decode cX4_rung 40 = .ok (.if_icmp .ne 11, 3) := dk_160 0 11 (dk_at dksX4_rung_1 18 rfl rfl)
theorem dX4_rung_43 : decode cX4_rung 43 = .ok (.aload_n 0, 1) := dk_42 (dk_at dksX4_rung_1 21 rfl rfl)
theorem dX4_rung_44 : decode cX4_rung 44 = .ok (.iload_n 1, 1) := dk_27 (dk_at dksX4_rung_1 22 rfl rfl)
theorem dX4_rung_45 : decode cX4_rung 45 = .ok (.invokevirtual 462, 3) := dk_182 1 206 (dk_at dksX4_rung_2 0 rfl rfl)
theorem dX4_rung_48 : decode cX4_rung 48 = .ok (.goto 4, 3) := dk_167 0 4 (dk_at dksX4_rung_2 3 rfl rfl)
theorem dX4_rung_51 : decode cX4_rung 51 = .ok (.iconst (-1), 1) := dk_2 (dk_at dksX4_rung_2 6 rfl rfl)
theorem dX4_rung_52 : decode cX4_rung 52 = .ok (.ireturn, 1) := dk_172 (dk_at dksX4_rung_2 7 rfl rfl)
abbrev cX4_isLadder : ByteArray := prog_23_method_53_code
def yX4_isLadder : MethodName := ⟨RX4, "isLadder", "(I)Z"⟩
def dkwX4_isLadder_0 : List UInt8 := [27, 3, 42, 180, 1, 197, 4, 100, 184, 0, 244, 172]
abbrev dktX4_isLadder_0 : List UInt8 := dkwX4_isLadder_0 ++ []
theorem dksX4_isLadder_0 : cX4_isLadder.data.toList.drop 0 = dktX4_isLadder_0 := by decide +kernel
theorem dX4_isLadder_0 : decode cX4_isLadder 0 = .ok (.iload_n 1, 1) := dk_27 (dk_at dksX4_isLadder_0 0 rfl rfl)
theorem dX4_isLadder_1 : decode cX4_isLadder 1 = .ok (.iconst 0, 1) := dk_3 (dk_at dksX4_isLadder_0 1 rfl rfl)
theorem dX4_isLadder_2 : decode cX4_isLadder 2 = .ok (.aload_n 0, 1) := dk_42 (dk_at dksX4_isLadder_0 2 rfl rfl)
theorem dX4_isLadder_3 : decode cX4_isLadder 3 = .ok (.getfield 453, 3) := dk_180 1 197 (dk_at dksX4_isLadder_0 3 rfl rfl)
theorem dX4_isLadder_6 : decode cX4_isLadder 6 = .ok (.iconst 1, 1) := dk_4 (dk_at dksX4_isLadder_0 6 rfl rfl)
theorem dX4_isLadder_7 : decode cX4_isLadder 7 = .ok (.isub, 1) := dk_100 (dk_at dksX4_isLadder_0 7 rfl rfl)
theorem dX4_isLadder_8 : decode cX4_isLadder 8 = .ok (.invokestatic 244, 3) := dk_184 0 244 (dk_at dksX4_isLadder_0 8 rfl rfl)
theorem dX4_isLadder_11 : decode cX4_isLadder 11 = .ok (.ireturn, 1) := dk_172 (dk_at dksX4_isLadder_0 11 rfl rfl)
abbrev cX4_age : ByteArray := prog_23_method_54_code
def yX4_age : MethodName := ⟨RX4, "age", "(I)I"⟩
def dkwX4_age_0 : List UInt8 := [42, 182, 0, 237, 42, 180, 0, 111, 27, 46, 100, 172]
abbrev dktX4_age_0 : List UInt8 := dkwX4_age_0 ++ []
theorem dksX4_age_0 : cX4_age.data.toList.drop 0 = dktX4_age_0 := by decide +kernel
theorem dX4_age_0 : decode cX4_age 0 = .ok (.aload_n 0, 1) := dk_42 (dk_at dksX4_age_0 0 rfl rfl)
theorem dX4_age_1 : decode cX4_age 1 = .ok (.invokevirtual 237, 3) := dk_182 0 237 (dk_at dksX4_age_0 1 rfl rfl)
theorem dX4_age_4 : decode cX4_age 4 = .ok (.aload_n 0, 1) := dk_42 (dk_at dksX4_age_0 4 rfl rfl)
theorem dX4_age_5 : decode cX4_age 5 = .ok (.getfield 111, 3) := dk_180 0 111 (dk_at dksX4_age_0 5 rfl rfl)
theorem dX4_age_8 : decode cX4_age 8 = .ok (.iload_n 1, 1) := dk_27 (dk_at dksX4_age_0 8 rfl rfl)
theorem dX4_age_9 : decode cX4_age 9 = .ok (.iaload, 1) := dk_46 (dk_at dksX4_age_0 9 rfl rfl)
theorem dX4_age_10 : decode cX4_age 10 = .ok (.isub, 1) := dk_100 (dk_at dksX4_age_0 10 rfl rfl)
theorem dX4_age_11 : decode cX4_age 11 = .ok (.ireturn, 1) := dk_172 (dk_at dksX4_age_0 11 rfl rfl)
abbrev cX4_bears : ByteArray := prog_23_method_55_code
def yX4_bears : MethodName := ⟨RX4, "bears", "(I)I"⟩
def dkwX4_bears_0 : List UInt8 := [17, 0, 150, 16, 6, 42, 27, 182, 1, 200, 104, 100, 172]
abbrev dktX4_bears_0 : List UInt8 := dkwX4_bears_0 ++ []
theorem dksX4_bears_0 : cX4_bears.data.toList.drop 0 = dktX4_bears_0 := by decide +kernel
theorem dX4_bears_0 : decode cX4_bears 0 = .ok (.sipush 150, 3) := dk_17 0 150 (dk_at dksX4_bears_0 0 rfl rfl)
theorem dX4_bears_3 : decode cX4_bears 3 = .ok (.bipush 6, 2) := dk_16 6 (dk_at dksX4_bears_0 3 rfl rfl)
theorem dX4_bears_5 : decode cX4_bears 5 = .ok (.aload_n 0, 1) := dk_42 (dk_at dksX4_bears_0 5 rfl rfl)
theorem dX4_bears_6 : decode cX4_bears 6 = .ok (.iload_n 1, 1) := dk_27 (dk_at dksX4_bears_0 6 rfl rfl)
theorem dX4_bears_7 : decode cX4_bears 7 = .ok (.invokevirtual 456, 3) := dk_182 1 200 (dk_at dksX4_bears_0 7 rfl rfl)
theorem dX4_bears_10 : decode cX4_bears 10 = .ok (.imul, 1) := dk_104 (dk_at dksX4_bears_0 10 rfl rfl)
theorem dX4_bears_11 : decode cX4_bears 11 = .ok (.isub, 1) := dk_100 (dk_at dksX4_bears_0 11 rfl rfl)
theorem dX4_bears_12 : decode cX4_bears 12 = .ok (.ireturn, 1) := dk_172 (dk_at dksX4_bears_0 12 rfl rfl)
abbrev cX4_reach : ByteArray := prog_23_method_60_code
def yX4_reach : MethodName := ⟨RX4, "reach", "(III)I"⟩
def dkwX4_reach_0 : List UInt8 := [42, 27, 28, 29, 182, 1, 213, 153, 0, 13, 42, 27, 28, 29, 182, 1, 216, 167, 0, 4, 2, 172]
abbrev dktX4_reach_0 : List UInt8 := dkwX4_reach_0 ++ []
theorem dksX4_reach_0 : cX4_reach.data.toList.drop 0 = dktX4_reach_0 := by decide +kernel
theorem dX4_reach_0 : decode cX4_reach 0 = .ok (.aload_n 0, 1) := dk_42 (dk_at dksX4_reach_0 0 rfl rfl)
theorem dX4_reach_1 : decode cX4_reach 1 = .ok (.iload_n 1, 1) := dk_27 (dk_at dksX4_reach_0 1 rfl rfl)
theorem dX4_reach_2 : decode cX4_reach 2 = .ok (.iload_n 2, 1) := dk_28 (dk_at dksX4_reach_0 2 rfl rfl)
theorem dX4_reach_3 : decode cX4_reach 3 = .ok (.iload_n 3, 1) := dk_29 (dk_at dksX4_reach_0 3 rfl rfl)
theorem dX4_reach_4 : decode cX4_reach 4 = .ok (.invokevirtual 469, 3) := dk_182 1 213 (dk_at dksX4_reach_0 4 rfl rfl)
theorem dX4_reach_7 : decode cX4_reach 7 = .ok (.ifCond .eq 13, 3) := dk_153 0 13 (dk_at dksX4_reach_0 7 rfl rfl)
theorem dX4_reach_10 : decode cX4_reach 10 = .ok (.aload_n 0, 1) := dk_42 (dk_at dksX4_reach_0 10 rfl rfl)
theorem dX4_reach_11 : decode cX4_reach 11 = .ok (.iload_n 1, 1) := dk_27 (dk_at dksX4_reach_0 11 rfl rfl)
theorem dX4_reach_12 : decode cX4_reach 12 = .ok (.iload_n 2, 1) := dk_28 (dk_at dksX4_reach_0 12 rfl rfl)
theorem dX4_reach_13 : decode cX4_reach 13 = .ok (.iload_n 3, 1) := dk_29 (dk_at dksX4_reach_0 13 rfl rfl)
theorem dX4_reach_14 : decode cX4_reach 14 = .ok (.invokevirtual 472, 3) := dk_182 1 216 (dk_at dksX4_reach_0 14 rfl rfl)
theorem dX4_reach_17 : decode cX4_reach 17 = .ok (.goto 4, 3) := dk_167 0 4 (dk_at dksX4_reach_0 17 rfl rfl)
theorem dX4_reach_20 : decode cX4_reach 20 = .ok (.iconst (-1), 1) := dk_2 (dk_at dksX4_reach_0 20 rfl rfl)
theorem dX4_reach_21 : decode cX4_reach 21 = .ok (.ireturn, 1) := dk_172 (dk_at dksX4_reach_0 21 rfl rfl)
abbrev cX4_canHang : ByteArray := prog_23_method_59_code
def yX4_canHang : MethodName := ⟨RX4, "canHang", "(III)Z"⟩
def dkwX4_canHang_1 : List UInt8 := [153, 0, 7, 4, 167, 0, 4, 3, 172]
abbrev dktX4_canHang_1 : List UInt8 := dkwX4_canHang_1 ++ []
def dkwX4_canHang_0 : List UInt8 := [42, 27, 182, 1, 203, 153, 0, 25, 28, 3, 16, 15, 184, 0, 244, 153, 0, 15, 42, 29, 182, 0, 251]
abbrev dktX4_canHang_0 : List UInt8 := dkwX4_canHang_0 ++ dktX4_canHang_1
theorem dksX4_canHang_0 : cX4_canHang.data.toList.drop 0 = dktX4_canHang_0 := by decide +kernel
theorem dksX4_canHang_1 : cX4_canHang.data.toList.drop 23 = dktX4_canHang_1 := dk_seg dksX4_canHang_0 23 rfl rfl
theorem dX4_canHang_0 : decode cX4_canHang 0 = .ok (.aload_n 0, 1) := dk_42 (dk_at dksX4_canHang_0 0 rfl rfl)
theorem dX4_canHang_1 : decode cX4_canHang 1 = .ok (.iload_n 1, 1) := dk_27 (dk_at dksX4_canHang_0 1 rfl rfl)
theorem dX4_canHang_2 : decode cX4_canHang 2 = .ok (.invokevirtual 459, 3) := dk_182 1 203 (dk_at dksX4_canHang_0 2 rfl rfl)
theorem dX4_canHang_5 : decode cX4_canHang 5 = .ok (.ifCond .eq 25, 3) := dk_153 0 25 (dk_at dksX4_canHang_0 5 rfl rfl)
theorem dX4_canHang_8 : decode cX4_canHang 8 = .ok (.iload_n 2, 1) := dk_28 (dk_at dksX4_canHang_0 8 rfl rfl)
theorem dX4_canHang_9 : decode cX4_canHang 9 = .ok (.iconst 0, 1) := dk_3 (dk_at dksX4_canHang_0 9 rfl rfl)
theorem dX4_canHang_10 : decode cX4_canHang 10 = .ok (.bipush 15, 2) := dk_16 15 (dk_at dksX4_canHang_0 10 rfl rfl)
theorem dX4_canHang_12 : decode cX4_canHang 12 = .ok (.invokestatic 244, 3) := dk_184 0 244 (dk_at dksX4_canHang_0 12 rfl rfl)
theorem dX4_canHang_15 : decode cX4_canHang 15 = .ok (.ifCond .eq 15, 3) := dk_153 0 15 (dk_at dksX4_canHang_0 15 rfl rfl)
theorem dX4_canHang_18 : decode cX4_canHang 18 = .ok (.aload_n 0, 1) := dk_42 (dk_at dksX4_canHang_0 18 rfl rfl)
theorem dX4_canHang_19 : decode cX4_canHang 19 = .ok (.iload_n 3, 1) := dk_29 (dk_at dksX4_canHang_0 19 rfl rfl)
theorem dX4_canHang_20 : decode cX4_canHang 20 = .ok (.invokevirtual 251, 3) := dk_182 0 251 (dk_at dksX4_canHang_0 20 rfl rfl)
theorem dX4_canHang_23 : decode cX4_canHang 23 = .ok (.ifCond .eq 7, 3) := dk_153 0 7 (dk_at dksX4_canHang_1 0 rfl rfl)
theorem dX4_canHang_26 : decode cX4_canHang 26 = .ok (.iconst 1, 1) := dk_4 (dk_at dksX4_canHang_1 3 rfl rfl)
theorem dX4_canHang_27 : decode cX4_canHang 27 = .ok (.goto 4, 3) := dk_167 0 4 (dk_at dksX4_canHang_1 4 rfl rfl)
theorem dX4_canHang_30 : decode cX4_canHang 30 = .ok (.iconst 0, 1) := dk_3 (dk_at dksX4_canHang_1 7 rfl rfl)
theorem dX4_canHang_31 : decode cX4_canHang 31 = .ok (.ireturn, 1) := dk_172 (dk_at dksX4_canHang_1 8 rfl rfl)
abbrev cX4_reached : ByteArray := prog_23_method_58_code
def yX4_reached : MethodName := ⟨RX4, "reached", "(III)I"⟩
def dkwX4_reached_2 : List UInt8 := [21, 4, 172]
abbrev dktX4_reached_2 : List UInt8 := dkwX4_reached_2 ++ []
def dkwX4_reached_1 : List UInt8 := [182, 1, 209, 153, 0, 10, 4, 21, 5, 120, 167, 0, 4, 3, 128, 54, 4, 132, 5, 1, 167, 255, 219]
abbrev dktX4_reached_1 : List UInt8 := dkwX4_reached_1 ++ dktX4_reached_2
def dkwX4_reached_0 : List UInt8 := [3, 54, 4, 3, 54, 5, 21, 5, 42, 180, 0, 248, 162, 0, 34, 21, 4, 42, 27, 28, 29, 21, 5]
abbrev dktX4_reached_0 : List UInt8 := dkwX4_reached_0 ++ dktX4_reached_1
theorem dksX4_reached_0 : cX4_reached.data.toList.drop 0 = dktX4_reached_0 := by decide +kernel
theorem dksX4_reached_1 : cX4_reached.data.toList.drop 23 = dktX4_reached_1 := dk_seg dksX4_reached_0 23 rfl rfl
theorem dksX4_reached_2 : cX4_reached.data.toList.drop 46 = dktX4_reached_2 := dk_seg dksX4_reached_1 23 rfl rfl
theorem dX4_reached_0 : decode cX4_reached 0 = .ok (.iconst 0, 1) := dk_3 (dk_at dksX4_reached_0 0 rfl rfl)
theorem dX4_reached_1 : decode cX4_reached 1 = .ok (.istore 4, 2) := dk_54 4 (dk_at dksX4_reached_0 1 rfl rfl)
theorem dX4_reached_3 : decode cX4_reached 3 = .ok (.iconst 0, 1) := dk_3 (dk_at dksX4_reached_0 3 rfl rfl)
theorem dX4_reached_4 : decode cX4_reached 4 = .ok (.istore 5, 2) := dk_54 5 (dk_at dksX4_reached_0 4 rfl rfl)
theorem dX4_reached_6 : decode cX4_reached 6 = .ok (.iload 5, 2) := dk_21 5 (dk_at dksX4_reached_0 6 rfl rfl)
theorem dX4_reached_8 : decode cX4_reached 8 = .ok (.aload_n 0, 1) := dk_42 (dk_at dksX4_reached_0 8 rfl rfl)
theorem dX4_reached_9 : decode cX4_reached 9 = .ok (.getfield 248, 3) := dk_180 0 248 (dk_at dksX4_reached_0 9 rfl rfl)
theorem dX4_reached_12 : decode cX4_reached 12 = .ok (.if_icmp .ge 34, 3) := dk_162 0 34 (dk_at dksX4_reached_0 12 rfl rfl)
theorem dX4_reached_15 : decode cX4_reached 15 = .ok (.iload 4, 2) := dk_21 4 (dk_at dksX4_reached_0 15 rfl rfl)
theorem dX4_reached_17 : decode cX4_reached 17 = .ok (.aload_n 0, 1) := dk_42 (dk_at dksX4_reached_0 17 rfl rfl)
theorem dX4_reached_18 : decode cX4_reached 18 = .ok (.iload_n 1, 1) := dk_27 (dk_at dksX4_reached_0 18 rfl rfl)
theorem dX4_reached_19 : decode cX4_reached 19 = .ok (.iload_n 2, 1) := dk_28 (dk_at dksX4_reached_0 19 rfl rfl)
theorem dX4_reached_20 : decode cX4_reached 20 = .ok (.iload_n 3, 1) := dk_29 (dk_at dksX4_reached_0 20 rfl rfl)
theorem dX4_reached_21 : decode cX4_reached 21 = .ok (.iload 5, 2) := dk_21 5 (dk_at dksX4_reached_0 21 rfl rfl)
theorem dX4_reached_23 : decode cX4_reached 23 = .ok (.invokevirtual 465, 3) := dk_182 1 209 (dk_at dksX4_reached_1 0 rfl rfl)
theorem dX4_reached_26 : decode cX4_reached 26 = .ok (.ifCond .eq 10, 3) := dk_153 0 10 (dk_at dksX4_reached_1 3 rfl rfl)
theorem dX4_reached_29 : decode cX4_reached 29 = .ok (.iconst 1, 1) := dk_4 (dk_at dksX4_reached_1 6 rfl rfl)
theorem dX4_reached_30 : decode cX4_reached 30 = .ok (.iload 5, 2) := dk_21 5 (dk_at dksX4_reached_1 7 rfl rfl)
theorem dX4_reached_32 : decode cX4_reached 32 = .ok (.ishl, 1) := dk_120 (dk_at dksX4_reached_1 9 rfl rfl)
theorem dX4_reached_33 : decode cX4_reached 33 = .ok (.goto 4, 3) := dk_167 0 4 (dk_at dksX4_reached_1 10 rfl rfl)
theorem dX4_reached_36 : decode cX4_reached 36 = .ok (.iconst 0, 1) := dk_3 (dk_at dksX4_reached_1 13 rfl rfl)
theorem dX4_reached_37 : decode cX4_reached 37 = .ok (.ior, 1) := dk_128 (dk_at dksX4_reached_1 14 rfl rfl)
theorem dX4_reached_38 : decode cX4_reached 38 = .ok (.istore 4, 2) := dk_54 4 (dk_at dksX4_reached_1 15 rfl rfl)
theorem dX4_reached_40 : decode cX4_reached 40 = .ok (.iinc 5 1, 3) := dk_132 5 1 (dk_at dksX4_reached_1 17 rfl rfl)
theorem dX4_reached_43 : decode cX4_reached 43 = .ok (.goto (-37), 3) := dk_167 255 219 (dk_at dksX4_reached_1 20 rfl rfl)
theorem dX4_reached_46 : decode cX4_reached 46 = .ok (.iload 4, 2) := dk_21 4 (dk_at dksX4_reached_2 0 rfl rfl)
theorem dX4_reached_48 : decode cX4_reached 48 = .ok (.ireturn, 1) := dk_172 (dk_at dksX4_reached_2 2 rfl rfl)
abbrev cX4_isReached : ByteArray := prog_23_method_57_code
def yX4_isReached : MethodName := ⟨RX4, "isReached", "(IIII)Z"⟩
def dkwX4_isReached_5 : List UInt8 := [172]
abbrev dktX4_isReached_5 : List UInt8 := dkwX4_isReached_5 ++ []
def dkwX4_isReached_4 : List UInt8 := [180, 0, 138, 29, 46, 21, 5, 16, 20, 108, 96, 42, 27, 182, 1, 206, 163, 0, 7, 4, 167, 0, 4, 3]
abbrev dktX4_isReached_4 : List UInt8 := dkwX4_isReached_4 ++ dktX4_isReached_5
def dkwX4_isReached_3 : List UInt8 := [172, 42, 180, 0, 32, 21, 4, 46, 42, 3, 21, 4, 182, 1, 194, 100, 54, 5, 21, 5, 158, 0, 27, 42]
abbrev dktX4_isReached_3 : List UInt8 := dkwX4_isReached_3 ++ dktX4_isReached_4
def dkwX4_isReached_2 : List UInt8 := [161, 0, 23, 42, 180, 0, 50, 21, 4, 51, 154, 0, 13, 42, 3, 21, 4, 182, 1, 190, 153, 0, 5, 3]
abbrev dktX4_isReached_2 : List UInt8 := dkwX4_isReached_2 ++ dktX4_isReached_3
def dkwX4_isReached_1 : List UInt8 := [184, 1, 13, 4, 163, 0, 42, 42, 180, 0, 26, 21, 4, 46, 16, 99, 42, 180, 0, 108, 27, 46, 100]
abbrev dktX4_isReached_1 : List UInt8 := dkwX4_isReached_1 ++ dktX4_isReached_2
def dkwX4_isReached_0 : List UInt8 := [42, 27, 182, 1, 200, 42, 180, 0, 63, 3, 46, 163, 0, 58, 42, 180, 0, 23, 21, 4, 46, 28, 100]
abbrev dktX4_isReached_0 : List UInt8 := dkwX4_isReached_0 ++ dktX4_isReached_1
theorem dksX4_isReached_0 : cX4_isReached.data.toList.drop 0 = dktX4_isReached_0 := by decide +kernel
theorem dksX4_isReached_1 : cX4_isReached.data.toList.drop 23 = dktX4_isReached_1 := dk_seg dksX4_isReached_0 23 rfl rfl
theorem dksX4_isReached_2 : cX4_isReached.data.toList.drop 46 = dktX4_isReached_2 := dk_seg dksX4_isReached_1 23 rfl rfl
theorem dksX4_isReached_3 : cX4_isReached.data.toList.drop 70 = dktX4_isReached_3 := dk_seg dksX4_isReached_2 24 rfl rfl
theorem dksX4_isReached_4 : cX4_isReached.data.toList.drop 94 = dktX4_isReached_4 := dk_seg dksX4_isReached_3 24 rfl rfl
theorem dksX4_isReached_5 : cX4_isReached.data.toList.drop 118 = dktX4_isReached_5 := dk_seg dksX4_isReached_4 24 rfl rfl
theorem dX4_isReached_0 : decode cX4_isReached 0 = .ok (.aload_n 0, 1) := dk_42 (dk_at dksX4_isReached_0 0 rfl rfl)
theorem dX4_isReached_1 : decode cX4_isReached 1 = .ok (.iload_n 1, 1) := dk_27 (dk_at dksX4_isReached_0 1 rfl rfl)
theorem dX4_isReached_2 : decode cX4_isReached 2 = .ok (.invokevirtual 456, 3) := dk_182 1 200 (dk_at dksX4_isReached_0 2 rfl rfl)
theorem dX4_isReached_5 : decode cX4_isReached 5 = .ok (.aload_n 0, 1) := dk_42 (dk_at dksX4_isReached_0 5 rfl rfl)
theorem dX4_isReached_6 : decode cX4_isReached 6 = .ok (.getfield 63, 3) := dk_180 0 63 (dk_at dksX4_isReached_0 6 rfl rfl)
theorem dX4_isReached_9 : decode cX4_isReached 9 = .ok (.iconst 0, 1) := dk_3 (dk_at dksX4_isReached_0 9 rfl rfl)
theorem dX4_isReached_10 : decode cX4_isReached 10 = .ok (.iaload, 1) := dk_46 (dk_at dksX4_isReached_0 10 rfl rfl)
theorem dX4_isReached_11 : decode cX4_isReached 11 = .ok (.if_icmp .gt 58, 3) := dk_163 0 58 (dk_at dksX4_isReached_0 11 rfl rfl)
theorem dX4_isReached_14 : decode cX4_isReached 14 = .ok (.aload_n 0, 1) := dk_42 (dk_at dksX4_isReached_0 14 rfl rfl)
theorem dX4_isReached_15 : decode cX4_isReached 15 = .ok (.getfield 23, 3) := dk_180 0 23 (dk_at dksX4_isReached_0 15 rfl rfl)
theorem dX4_isReached_18 : decode cX4_isReached 18 = .ok (.iload 4, 2) := dk_21 4 (dk_at dksX4_isReached_0 18 rfl rfl)
theorem dX4_isReached_20 : decode cX4_isReached 20 = .ok (.iaload, 1) := dk_46 (dk_at dksX4_isReached_0 20 rfl rfl)
theorem dX4_isReached_21 : decode cX4_isReached 21 = .ok (.iload_n 2, 1) := dk_28 (dk_at dksX4_isReached_0 21 rfl rfl)
theorem dX4_isReached_22 : decode cX4_isReached 22 = .ok (.isub, 1) := dk_100 (dk_at dksX4_isReached_0 22 rfl rfl)
theorem dX4_isReached_23 : decode cX4_isReached 23 = .ok (.invokestatic 269, 3) := dk_184 1 13 (dk_at dksX4_isReached_1 0 rfl rfl)
theorem dX4_isReached_26 : decode cX4_isReached 26 = .ok (.iconst 1, 1) := dk_4 (dk_at dksX4_isReached_1 3 rfl rfl)
theorem dX4_isReached_27 : decode cX4_isReached 27 = .ok (.if_icmp .gt 42, 3) := dk_163 0 42 (dk_at dksX4_isReached_1 4 rfl rfl)
theorem dX4_isReached_30 : decode cX4_isReached 30 = .ok (.aload_n 0, 1) := dk_42 (dk_at dksX4_isReached_1 7 rfl rfl)
theorem dX4_isReached_31 : decode cX4_isReached 31 = .ok (.getfield 26, 3) := dk_180 0 26 (dk_at dksX4_isReached_1 8 rfl rfl)
theorem dX4_isReached_34 : decode cX4_isReached 34 = .ok (.iload 4, 2) := dk_21 4 (dk_at dksX4_isReached_1 11 rfl rfl)
theorem dX4_isReached_36 : decode cX4_isReached 36 = .ok (.iaload, 1) := dk_46 (dk_at dksX4_isReached_1 13 rfl rfl)
theorem dX4_isReached_37 : decode cX4_isReached 37 = .ok (.bipush 99, 2) := dk_16 99 (dk_at dksX4_isReached_1 14 rfl rfl)
theorem dX4_isReached_39 : decode cX4_isReached 39 = .ok (.aload_n 0, 1) := dk_42 (dk_at dksX4_isReached_1 16 rfl rfl)
theorem dX4_isReached_40 : decode cX4_isReached 40 = .ok (.getfield 108, 3) := dk_180 0 108 (dk_at dksX4_isReached_1 17 rfl rfl)
theorem dX4_isReached_43 : decode cX4_isReached 43 = .ok (.iload_n 1, 1) := dk_27 (dk_at dksX4_isReached_1 20 rfl rfl)
theorem dX4_isReached_44 : decode cX4_isReached 44 = .ok (.iaload, 1) := dk_46 (dk_at dksX4_isReached_1 21 rfl rfl)
theorem dX4_isReached_45 : decode cX4_isReached 45 = .ok (.isub, 1) := dk_100 (dk_at dksX4_isReached_1 22 rfl rfl)
theorem dX4_isReached_46 : decode cX4_isReached 46 = .ok (.if_icmp .lt 23, 3) := dk_161 0 23 (dk_at dksX4_isReached_2 0 rfl rfl)
theorem dX4_isReached_49 : decode cX4_isReached 49 = .ok (.aload_n 0, 1) := dk_42 (dk_at dksX4_isReached_2 3 rfl rfl)
theorem dX4_isReached_50 : decode cX4_isReached 50 = .ok (.getfield 50, 3) := dk_180 0 50 (dk_at dksX4_isReached_2 4 rfl rfl)
theorem dX4_isReached_53 : decode cX4_isReached 53 = .ok (.iload 4, 2) := dk_21 4 (dk_at dksX4_isReached_2 7 rfl rfl)
theorem dX4_isReached_55 : decode cX4_isReached 55 = .ok (.baload, 1) := dk_51 (dk_at dksX4_isReached_2 9 rfl rfl)
theorem dX4_isReached_56 : decode cX4_isReached 56 = .ok (.ifCond .ne 13, 3) := dk_154 0 13 (dk_at dksX4_isReached_2 10 rfl rfl)
theorem dX4_isReached_59 : decode cX4_isReached 59 = .ok (.aload_n 0, 1) := dk_42 (dk_at dksX4_isReached_2 13 rfl rfl)
theorem dX4_isReached_60 : decode cX4_isReached 60 = .ok (.iconst 0, 1) := dk_3 (dk_at dksX4_isReached_2 14 rfl rfl)
theorem dX4_isReached_61 : decode cX4_isReached 61 = .ok (.iload 4, 2) := dk_21 4 (dk_at dksX4_isReached_2 15 rfl rfl)
theorem dX4_isReached_63 : decode cX4_isReached 63 = .ok (.invokevirtual 446, 3) := dk_182 1 190 (dk_at dksX4_isReached_2 17 rfl rfl)
theorem dX4_isReached_66 : decode cX4_isReached 66 = .ok (.ifCond .eq 5, 3) := dk_153 0 5 (dk_at dksX4_isReached_2 20 rfl rfl)
theorem dX4_isReached_69 : decode cX4_isReached 69 = .ok (.iconst 0, 1) := dk_3 (dk_at dksX4_isReached_2 23 rfl rfl)
theorem dX4_isReached_70 : decode cX4_isReached 70 = .ok (.ireturn, 1) := dk_172 (dk_at dksX4_isReached_3 0 rfl rfl)
theorem dX4_isReached_71 : decode cX4_isReached 71 = .ok (.aload_n 0, 1) := dk_42 (dk_at dksX4_isReached_3 1 rfl rfl)
theorem dX4_isReached_72 : decode cX4_isReached 72 = .ok (.getfield 32, 3) := dk_180 0 32 (dk_at dksX4_isReached_3 2 rfl rfl)
theorem dX4_isReached_75 : decode cX4_isReached 75 = .ok (.iload 4, 2) := dk_21 4 (dk_at dksX4_isReached_3 5 rfl rfl)
theorem dX4_isReached_77 : decode cX4_isReached 77 = .ok (.iaload, 1) := dk_46 (dk_at dksX4_isReached_3 7 rfl rfl)
theorem dX4_isReached_78 : decode cX4_isReached 78 = .ok (.aload_n 0, 1) := dk_42 (dk_at dksX4_isReached_3 8 rfl rfl)
theorem dX4_isReached_79 : decode cX4_isReached 79 = .ok (.iconst 0, 1) := dk_3 (dk_at dksX4_isReached_3 9 rfl rfl)
theorem dX4_isReached_80 : decode cX4_isReached 80 = .ok (.iload 4, 2) := dk_21 4 (dk_at dksX4_isReached_3 10 rfl rfl)
theorem dX4_isReached_82 : decode cX4_isReached 82 = .ok (.invokevirtual 450, 3) := dk_182 1 194 (dk_at dksX4_isReached_3 12 rfl rfl)
theorem dX4_isReached_85 : decode cX4_isReached 85 = .ok (.isub, 1) := dk_100 (dk_at dksX4_isReached_3 15 rfl rfl)
theorem dX4_isReached_86 : decode cX4_isReached 86 = .ok (.istore 5, 2) := dk_54 5 (dk_at dksX4_isReached_3 16 rfl rfl)
theorem dX4_isReached_88 : decode cX4_isReached 88 = .ok (.iload 5, 2) := dk_21 5 (dk_at dksX4_isReached_3 18 rfl rfl)
theorem dX4_isReached_90 : decode cX4_isReached 90 = .ok (.ifCond .le 27, 3) := dk_158 0 27 (dk_at dksX4_isReached_3 20 rfl rfl)
theorem dX4_isReached_93 : decode cX4_isReached 93 = .ok (.aload_n 0, 1) := dk_42 (dk_at dksX4_isReached_3 23 rfl rfl)
theorem dX4_isReached_94 : decode cX4_isReached 94 = .ok (.getfield 138, 3) := dk_180 0 138 (dk_at dksX4_isReached_4 0 rfl rfl)
theorem dX4_isReached_97 : decode cX4_isReached 97 = .ok (.iload_n 3, 1) := dk_29 (dk_at dksX4_isReached_4 3 rfl rfl)
theorem dX4_isReached_98 : decode cX4_isReached 98 = .ok (.iaload, 1) := dk_46 (dk_at dksX4_isReached_4 4 rfl rfl)
theorem dX4_isReached_99 : decode cX4_isReached 99 = .ok (.iload 5, 2) := dk_21 5 (dk_at dksX4_isReached_4 5 rfl rfl)
theorem dX4_isReached_101 : decode cX4_isReached 101 = .ok (.bipush 20, 2) := dk_16 20 (dk_at dksX4_isReached_4 7 rfl rfl)
theorem dX4_isReached_103 : decode cX4_isReached 103 = .ok (.idiv, 1) := dk_108 (dk_at dksX4_isReached_4 9 rfl rfl)
theorem dX4_isReached_104 : decode cX4_isReached 104 = .ok (.iadd, 1) := dk_96 (dk_at dksX4_isReached_4 10 rfl rfl)
theorem dX4_isReached_105 : decode cX4_isReached 105 = .ok (.aload_n 0, 1) := dk_42 (dk_at dksX4_isReached_4 11 rfl rfl)
theorem dX4_isReached_106 : decode cX4_isReached 106 = .ok (.iload_n 1, 1) := dk_27 (dk_at dksX4_isReached_4 12 rfl rfl)
theorem dX4_isReached_107 : decode cX4_isReached 107 = .ok (.invokevirtual 462, 3) := dk_182 1 206 (dk_at dksX4_isReached_4 13 rfl rfl)
theorem dX4_isReached_110 : decode cX4_isReached 110 = .ok (.if_icmp .gt 7, 3) := dk_163 0 7 (dk_at dksX4_isReached_4 16 rfl rfl)
theorem dX4_isReached_113 : decode cX4_isReached 113 = .ok (.iconst 1, 1) := dk_4 (dk_at dksX4_isReached_4 19 rfl rfl)
theorem dX4_isReached_114 : decode cX4_isReached 114 = .ok (.goto 4, 3) := dk_167 0 4 (dk_at dksX4_isReached_4 20 rfl rfl)
theorem dX4_isReached_117 : decode cX4_isReached 117 = .ok (.iconst 0, 1) := dk_3 (dk_at dksX4_isReached_4 23 rfl rfl)
theorem dX4_isReached_118 : decode cX4_isReached 118 = .ok (.ireturn, 1) := dk_172 (dk_at dksX4_isReached_5 0 rfl rfl)
abbrev cX4_row : ByteArray := prog_23_method_64_code
def yX4_row : MethodName := ⟨RX4, "row", "(IIII)I"⟩
def dkwX4_row_4 : List UInt8 := [167, 0, 4, 2, 172]
abbrev dktX4_row_4 : List UInt8 := dkwX4_row_4 ++ []
def dkwX4_row_3 : List UInt8 := [16, 9, 42, 180, 1, 222, 96, 184, 0, 244, 153, 0, 16, 42, 180, 0, 132, 21, 4, 16, 10, 100, 46]
abbrev dktX4_row_3 : List UInt8 := dkwX4_row_3 ++ dktX4_row_4
def dkwX4_row_2 : List UInt8 := [42, 180, 1, 222, 172, 42, 180, 1, 225, 172, 42, 180, 1, 228, 172, 42, 180, 1, 231, 172, 21, 4, 16, 10]
abbrev dktX4_row_2 : List UInt8 := dkwX4_row_2 ++ dktX4_row_3
def dkwX4_row_1 : List UInt8 := [170, 0, 0, 0, 0, 0, 51, 0, 0, 0, 0, 0, 0, 0, 3, 0, 0, 0, 31, 0, 0, 0, 36, 0, 0, 0, 41, 0, 0, 0, 46]
abbrev dktX4_row_1 : List UInt8 := dkwX4_row_1 ++ dktX4_row_2
def dkwX4_row_0 : List UInt8 := [42, 27, 28, 29, 182, 1, 213, 154, 0, 5, 2, 172, 42, 27, 28, 29, 182, 1, 240, 21, 4]
abbrev dktX4_row_0 : List UInt8 := dkwX4_row_0 ++ dktX4_row_1
theorem dksX4_row_0 : cX4_row.data.toList.drop 0 = dktX4_row_0 := by decide +kernel
theorem dksX4_row_1 : cX4_row.data.toList.drop 21 = dktX4_row_1 := dk_seg dksX4_row_0 21 rfl rfl
theorem dksX4_row_2 : cX4_row.data.toList.drop 52 = dktX4_row_2 := dk_seg dksX4_row_1 31 rfl rfl
theorem dksX4_row_3 : cX4_row.data.toList.drop 76 = dktX4_row_3 := dk_seg dksX4_row_2 24 rfl rfl
theorem dksX4_row_4 : cX4_row.data.toList.drop 99 = dktX4_row_4 := dk_seg dksX4_row_3 23 rfl rfl
theorem dX4_row_0 : decode cX4_row 0 = .ok (.aload_n 0, 1) := dk_42 (dk_at dksX4_row_0 0 rfl rfl)
theorem dX4_row_1 : decode cX4_row 1 = .ok (.iload_n 1, 1) := dk_27 (dk_at dksX4_row_0 1 rfl rfl)
theorem dX4_row_2 : decode cX4_row 2 = .ok (.iload_n 2, 1) := dk_28 (dk_at dksX4_row_0 2 rfl rfl)
theorem dX4_row_3 : decode cX4_row 3 = .ok (.iload_n 3, 1) := dk_29 (dk_at dksX4_row_0 3 rfl rfl)
theorem dX4_row_4 : decode cX4_row 4 = .ok (.invokevirtual 469, 3) := dk_182 1 213 (dk_at dksX4_row_0 4 rfl rfl)
theorem dX4_row_7 : decode cX4_row 7 = .ok (.ifCond .ne 5, 3) := dk_154 0 5 (dk_at dksX4_row_0 7 rfl rfl)
theorem dX4_row_10 : decode cX4_row 10 = .ok (.iconst (-1), 1) := dk_2 (dk_at dksX4_row_0 10 rfl rfl)
theorem dX4_row_11 : decode cX4_row 11 = .ok (.ireturn, 1) := dk_172 (dk_at dksX4_row_0 11 rfl rfl)
theorem dX4_row_12 : decode cX4_row 12 = .ok (.aload_n 0, 1) := dk_42 (dk_at dksX4_row_0 12 rfl rfl)
theorem dX4_row_13 : decode cX4_row 13 = .ok (.iload_n 1, 1) := dk_27 (dk_at dksX4_row_0 13 rfl rfl)
theorem dX4_row_14 : decode cX4_row 14 = .ok (.iload_n 2, 1) := dk_28 (dk_at dksX4_row_0 14 rfl rfl)
theorem dX4_row_15 : decode cX4_row 15 = .ok (.iload_n 3, 1) := dk_29 (dk_at dksX4_row_0 15 rfl rfl)
theorem dX4_row_16 : decode cX4_row 16 = .ok (.invokevirtual 496, 3) := dk_182 1 240 (dk_at dksX4_row_0 16 rfl rfl)
theorem dX4_row_19 : decode cX4_row 19 = .ok (.iload 4, 2) := dk_21 4 (dk_at dksX4_row_0 19 rfl rfl)
theorem dX4_row_21 : decode cX4_row 21 = .ok (.tableswitch 51 0 3 #[31, 36, 41, 46], 31) := by decide +kernel
theorem dX4_row_52 : decode cX4_row 52 = .ok (.aload_n 0, 1) := dk_42 (dk_at dksX4_row_2 0 rfl rfl)
theorem dX4_row_53 : decode cX4_row 53 = .ok (.getfield 478, 3) := dk_180 1 222 (dk_at dksX4_row_2 1 rfl rfl)
theorem dX4_row_56 : decode cX4_row 56 = .ok (.ireturn, 1) := dk_172 (dk_at dksX4_row_2 4 rfl rfl)
theorem dX4_row_57 : decode cX4_row 57 = .ok (.aload_n 0, 1) := dk_42 (dk_at dksX4_row_2 5 rfl rfl)
theorem dX4_row_58 : decode cX4_row 58 = .ok (.getfield 481, 3) := dk_180 1 225 (dk_at dksX4_row_2 6 rfl rfl)
theorem dX4_row_61 : decode cX4_row 61 = .ok (.ireturn, 1) := dk_172 (dk_at dksX4_row_2 9 rfl rfl)
theorem dX4_row_62 : decode cX4_row 62 = .ok (.aload_n 0, 1) := dk_42 (dk_at dksX4_row_2 10 rfl rfl)
theorem dX4_row_63 : decode cX4_row 63 = .ok (.getfield 484, 3) := dk_180 1 228 (dk_at dksX4_row_2 11 rfl rfl)
theorem dX4_row_66 : decode cX4_row 66 = .ok (.ireturn, 1) := dk_172 (dk_at dksX4_row_2 14 rfl rfl)
theorem dX4_row_67 : decode cX4_row 67 = .ok (.aload_n 0, 1) := dk_42 (dk_at dksX4_row_2 15 rfl rfl)
theorem dX4_row_68 : decode cX4_row 68 = .ok (.getfield 487, 3) := dk_180 1 231 (dk_at dksX4_row_2 16 rfl rfl)
theorem dX4_row_71 : decode cX4_row 71 = .ok (.ireturn, 1) := dk_172 (dk_at dksX4_row_2 19 rfl rfl)
theorem dX4_row_72 : decode cX4_row 72 = .ok (.iload 4, 2) := dk_21 4 (dk_at dksX4_row_2 20 rfl rfl)
theorem dX4_row_74 : decode cX4_row 74 = .ok (.bipush 10, 2) := dk_16 10 (dk_at dksX4_row_2 22 rfl rfl)
theorem dX4_row_76 : decode cX4_row 76 = .ok (.bipush 9, 2) := dk_16 9 (dk_at dksX4_row_3 0 rfl rfl)
theorem dX4_row_78 : decode cX4_row 78 = .ok (.aload_n 0, 1) := dk_42 (dk_at dksX4_row_3 2 rfl rfl)
theorem dX4_row_79 : decode cX4_row 79 = .ok (.getfield 478, 3) := dk_180 1 222 (dk_at dksX4_row_3 3 rfl rfl)
theorem dX4_row_82 : decode cX4_row 82 = .ok (.iadd, 1) := dk_96 (dk_at dksX4_row_3 6 rfl rfl)
theorem dX4_row_83 : decode cX4_row 83 = .ok (.invokestatic 244, 3) := dk_184 0 244 (dk_at dksX4_row_3 7 rfl rfl)
theorem dX4_row_86 : decode cX4_row 86 = .ok (.ifCond .eq 16, 3) := dk_153 0 16 (dk_at dksX4_row_3 10 rfl rfl)
theorem dX4_row_89 : decode cX4_row 89 = .ok (.aload_n 0, 1) := dk_42 (dk_at dksX4_row_3 13 rfl rfl)
theorem dX4_row_90 : decode cX4_row 90 = .ok (.getfield 132, 3) := dk_180 0 132 (dk_at dksX4_row_3 14 rfl rfl)
theorem dX4_row_93 : decode cX4_row 93 = .ok (.iload 4, 2) := dk_21 4 (dk_at dksX4_row_3 17 rfl rfl)
theorem dX4_row_95 : decode cX4_row 95 = .ok (.bipush 10, 2) := dk_16 10 (dk_at dksX4_row_3 19 rfl rfl)
theorem dX4_row_97 : decode cX4_row 97 = .ok (.isub, 1) := dk_100 (dk_at dksX4_row_3 21 rfl rfl)
theorem dX4_row_98 : decode cX4_row 98 = .ok (.iaload, 1) := dk_46 (dk_at dksX4_row_3 22 rfl rfl)
theorem dX4_row_99 : decode cX4_row 99 = .ok (.goto 4, 3) := dk_167 0 4 (dk_at dksX4_row_4 0 rfl rfl)
theorem dX4_row_102 : decode cX4_row 102 = .ok (.iconst (-1), 1) := dk_2 (dk_at dksX4_row_4 3 rfl rfl)
theorem dX4_row_103 : decode cX4_row 103 = .ok (.ireturn, 1) := dk_172 (dk_at dksX4_row_4 4 rfl rfl)
abbrev cX4_rows : ByteArray := prog_23_method_62_code
def yX4_rows : MethodName := ⟨RX4, "rows", "(III)V"⟩
def dkwX4_rows_18 : List UInt8 := [21, 5, 21, 11, 5, 16, 99, 42, 180, 0, 26, 21, 8, 46, 100, 104, 96, 182, 1, 237, 167, 254, 200, 177]
abbrev dktX4_rows_18 : List UInt8 := dkwX4_rows_18 ++ []
def dkwX4_rows_17 : List UInt8 := [21, 5, 21, 11, 79, 42, 180, 0, 129, 21, 5, 21, 12, 79, 42, 180, 0, 120, 21, 5, 3, 79, 42]
abbrev dktX4_rows_17 : List UInt8 := dkwX4_rows_17 ++ dktX4_rows_18
def dkwX4_rows_16 : List UInt8 := [42, 180, 0, 123, 21, 5, 42, 180, 0, 123, 21, 5, 4, 100, 46, 21, 9, 96, 79, 42, 180, 0, 126]
abbrev dktX4_rows_16 : List UInt8 := dkwX4_rows_16 ++ dktX4_rows_17
def dkwX4_rows_15 : List UInt8 := [167, 255, 34, 42, 180, 0, 117, 21, 5, 21, 8, 79, 21, 6, 4, 21, 8, 120, 128, 54, 6, 132, 5, 1]
abbrev dktX4_rows_15 : List UInt8 := dkwX4_rows_15 ++ dktX4_rows_16
def dkwX4_rows_14 : List UInt8 := [21, 8, 46, 96, 54, 12, 21, 12, 42, 180, 0, 13, 163, 255, 46, 21, 11, 42, 180, 0, 7, 164, 0, 6]
abbrev dktX4_rows_14 : List UInt8 := dkwX4_rows_14 ++ dktX4_rows_15
def dkwX4_rows_13 : List UInt8 := [21, 8, 182, 1, 234, 153, 0, 15, 42, 180, 0, 29, 21, 8, 46, 6, 108, 167, 0, 10, 42, 180, 0, 29]
abbrev dktX4_rows_13 : List UInt8 := dkwX4_rows_13 ++ dktX4_rows_14
def dkwX4_rows_12 : List UInt8 := [16, 15, 96, 21, 9, 16, 9, 96, 16, 10, 108, 96, 54, 11, 42, 180, 0, 129, 21, 5, 46, 42, 21, 5]
abbrev dktX4_rows_12 : List UInt8 := dkwX4_rows_12 ++ dktX4_rows_13
def dkwX4_rows_11 : List UInt8 := [42, 180, 0, 126, 21, 5, 46, 5, 21, 10, 42, 180, 0, 26, 21, 8, 46, 100, 184, 1, 13, 104, 96]
abbrev dktX4_rows_11 : List UInt8 := dkwX4_rows_11 ++ dktX4_rows_12
def dkwX4_rows_10 : List UInt8 := [154, 0, 8, 16, 99, 167, 0, 17, 42, 180, 0, 26, 42, 180, 0, 117, 21, 5, 4, 100, 46, 46, 54, 10]
abbrev dktX4_rows_10 : List UInt8 := dkwX4_rows_10 ++ dktX4_rows_11
def dkwX4_rows_9 : List UInt8 := [167, 255, 175, 42, 180, 0, 32, 21, 8, 46, 42, 3, 21, 8, 182, 1, 194, 100, 54, 9, 21, 5]
abbrev dktX4_rows_9 : List UInt8 := dkwX4_rows_9 ++ dktX4_rows_10
def dkwX4_rows_8 : List UInt8 := [167, 255, 198, 42, 180, 0, 114, 21, 7, 46, 54, 8, 21, 6, 21, 8, 122, 4, 126, 4, 160, 0, 6]
abbrev dktX4_rows_8 : List UInt8 := dkwX4_rows_8 ++ dktX4_rows_9
def dkwX4_rows_7 : List UInt8 := [132, 5, 255, 21, 5, 155, 255, 217, 21, 6, 4, 42, 180, 0, 117, 21, 5, 46, 120, 2, 130, 126, 54, 6]
abbrev dktX4_rows_7 : List UInt8 := dkwX4_rows_7 ++ dktX4_rows_8
def dkwX4_rows_6 : List UInt8 := [46, 54, 7, 42, 180, 0, 120, 21, 5, 92, 46, 4, 96, 79, 21, 7, 42, 180, 1, 219, 161, 0, 30]
abbrev dktX4_rows_6 : List UInt8 := dkwX4_rows_6 ++ dktX4_rows_7
def dkwX4_rows_5 : List UInt8 := [180, 0, 126, 3, 3, 79, 42, 180, 0, 129, 3, 3, 79, 21, 5, 155, 1, 57, 42, 180, 0, 120, 21, 5]
abbrev dktX4_rows_5 : List UInt8 := dkwX4_rows_5 ++ dktX4_rows_6
def dkwX4_rows_4 : List UInt8 := [181, 1, 231, 3, 54, 5, 3, 54, 6, 42, 180, 0, 120, 3, 3, 79, 42, 180, 0, 123, 3, 3, 79, 42]
abbrev dktX4_rows_4 : List UInt8 := dkwX4_rows_4 ++ dktX4_rows_5
def dkwX4_rows_3 : List UInt8 := [132, 5, 1, 167, 255, 201, 42, 3, 181, 1, 222, 42, 3, 181, 1, 225, 42, 3, 181, 1, 228, 42, 3]
abbrev dktX4_rows_3 : List UInt8 := dkwX4_rows_3 ++ dktX4_rows_4
def dkwX4_rows_2 : List UInt8 := [167, 0, 24, 42, 180, 0, 114, 42, 180, 1, 219, 21, 5, 79, 42, 89, 180, 1, 219, 4, 96, 181, 1, 219]
abbrev dktX4_rows_2 : List UInt8 := dkwX4_rows_2 ++ dktX4_rows_3
def dkwX4_rows_1 : List UInt8 := [162, 0, 52, 42, 180, 1, 219, 16, 7, 162, 0, 43, 21, 4, 21, 5, 122, 4, 126, 154, 0, 6]
abbrev dktX4_rows_1 : List UInt8 := dkwX4_rows_1 ++ dktX4_rows_2
def dkwX4_rows_0 : List UInt8 := [42, 27, 28, 29, 182, 1, 216, 54, 4, 42, 3, 181, 1, 219, 3, 54, 5, 21, 5, 42, 180, 0, 248]
abbrev dktX4_rows_0 : List UInt8 := dkwX4_rows_0 ++ dktX4_rows_1
theorem dksX4_rows_0 : cX4_rows.data.toList.drop 0 = dktX4_rows_0 := by decide +kernel
theorem dksX4_rows_1 : cX4_rows.data.toList.drop 23 = dktX4_rows_1 := dk_seg dksX4_rows_0 23 rfl rfl
theorem dksX4_rows_2 : cX4_rows.data.toList.drop 45 = dktX4_rows_2 := dk_seg dksX4_rows_1 22 rfl rfl
theorem dksX4_rows_3 : cX4_rows.data.toList.drop 69 = dktX4_rows_3 := dk_seg dksX4_rows_2 24 rfl rfl
theorem dksX4_rows_4 : cX4_rows.data.toList.drop 92 = dktX4_rows_4 := dk_seg dksX4_rows_3 23 rfl rfl
theorem dksX4_rows_5 : cX4_rows.data.toList.drop 116 = dktX4_rows_5 := dk_seg dksX4_rows_4 24 rfl rfl
theorem dksX4_rows_6 : cX4_rows.data.toList.drop 140 = dktX4_rows_6 := dk_seg dksX4_rows_5 24 rfl rfl
theorem dksX4_rows_7 : cX4_rows.data.toList.drop 163 = dktX4_rows_7 := dk_seg dksX4_rows_6 23 rfl rfl
theorem dksX4_rows_8 : cX4_rows.data.toList.drop 187 = dktX4_rows_8 := dk_seg dksX4_rows_7 24 rfl rfl
theorem dksX4_rows_9 : cX4_rows.data.toList.drop 210 = dktX4_rows_9 := dk_seg dksX4_rows_8 23 rfl rfl
theorem dksX4_rows_10 : cX4_rows.data.toList.drop 232 = dktX4_rows_10 := dk_seg dksX4_rows_9 22 rfl rfl
theorem dksX4_rows_11 : cX4_rows.data.toList.drop 256 = dktX4_rows_11 := dk_seg dksX4_rows_10 24 rfl rfl
theorem dksX4_rows_12 : cX4_rows.data.toList.drop 279 = dktX4_rows_12 := dk_seg dksX4_rows_11 23 rfl rfl
theorem dksX4_rows_13 : cX4_rows.data.toList.drop 303 = dktX4_rows_13 := dk_seg dksX4_rows_12 24 rfl rfl
theorem dksX4_rows_14 : cX4_rows.data.toList.drop 327 = dktX4_rows_14 := dk_seg dksX4_rows_13 24 rfl rfl
theorem dksX4_rows_15 : cX4_rows.data.toList.drop 351 = dktX4_rows_15 := dk_seg dksX4_rows_14 24 rfl rfl
theorem dksX4_rows_16 : cX4_rows.data.toList.drop 375 = dktX4_rows_16 := dk_seg dksX4_rows_15 24 rfl rfl
theorem dksX4_rows_17 : cX4_rows.data.toList.drop 398 = dktX4_rows_17 := dk_seg dksX4_rows_16 23 rfl rfl
theorem dksX4_rows_18 : cX4_rows.data.toList.drop 421 = dktX4_rows_18 := dk_seg dksX4_rows_17 23 rfl rfl
theorem dX4_rows_0 : decode cX4_rows 0 = .ok (.aload_n 0, 1) := dk_42 (dk_at dksX4_rows_0 0 rfl rfl)
theorem dX4_rows_1 : decode cX4_rows 1 = .ok (.iload_n 1, 1) := dk_27 (dk_at dksX4_rows_0 1 rfl rfl)
theorem dX4_rows_2 : decode cX4_rows 2 = .ok (.iload_n 2, 1) := dk_28 (dk_at dksX4_rows_0 2 rfl rfl)
theorem dX4_rows_3 : decode cX4_rows 3 = .ok (.iload_n 3, 1) := dk_29 (dk_at dksX4_rows_0 3 rfl rfl)
theorem dX4_rows_4 : decode cX4_rows 4 = .ok (.invokevirtual 472, 3) := dk_182 1 216 (dk_at dksX4_rows_0 4 rfl rfl)
theorem dX4_rows_7 : decode cX4_rows 7 = .ok (.istore 4, 2) := dk_54 4 (dk_at dksX4_rows_0 7 rfl rfl)
theorem dX4_rows_9 : decode cX4_rows 9 = .ok (.aload_n 0, 1) := dk_42 (dk_at dksX4_rows_0 9 rfl rfl)
theorem dX4_rows_10 : decode cX4_rows 10 = .ok (.iconst 0, 1) := dk_3 (dk_at dksX4_rows_0 10 rfl rfl)
theorem dX4_rows_11 : decode cX4_rows 11 = .ok (.putfield 475, 3) := dk_181 1 219 (dk_at dksX4_rows_0 11 rfl rfl)
theorem dX4_rows_14 : decode cX4_rows 14 = .ok (.iconst 0, 1) := dk_3 (dk_at dksX4_rows_0 14 rfl rfl)
theorem dX4_rows_15 : decode cX4_rows 15 = .ok (.istore 5, 2) := dk_54 5 (dk_at dksX4_rows_0 15 rfl rfl)
theorem dX4_rows_17 : decode cX4_rows 17 = .ok (.iload 5, 2) := dk_21 5 (dk_at dksX4_rows_0 17 rfl rfl)
theorem dX4_rows_19 : decode cX4_rows 19 = .ok (.aload_n 0, 1) := dk_42 (dk_at dksX4_rows_0 19 rfl rfl)
theorem dX4_rows_20 : decode cX4_rows 20 = .ok (.getfield 248, 3) := dk_180 0 248 (dk_at dksX4_rows_0 20 rfl rfl)
theorem dX4_rows_23 : decode cX4_rows 23 = .ok (.if_icmp .ge 52, 3) := dk_162 0 52 (dk_at dksX4_rows_1 0 rfl rfl)
theorem dX4_rows_26 : decode cX4_rows 26 = .ok (.aload_n 0, 1) := dk_42 (dk_at dksX4_rows_1 3 rfl rfl)
theorem dX4_rows_27 : decode cX4_rows 27 = .ok (.getfield 475, 3) := dk_180 1 219 (dk_at dksX4_rows_1 4 rfl rfl)
theorem dX4_rows_30 : decode cX4_rows 30 = .ok (.bipush 7, 2) := dk_16 7 (dk_at dksX4_rows_1 7 rfl rfl)
theorem dX4_rows_32 : decode cX4_rows 32 = .ok (.if_icmp .ge 43, 3) := dk_162 0 43 (dk_at dksX4_rows_1 9 rfl rfl)
theorem dX4_rows_35 : decode cX4_rows 35 = .ok (.iload 4, 2) := dk_21 4 (dk_at dksX4_rows_1 12 rfl rfl)
theorem dX4_rows_37 : decode cX4_rows 37 = .ok (.iload 5, 2) := dk_21 5 (dk_at dksX4_rows_1 14 rfl rfl)
theorem dX4_rows_39 : decode cX4_rows 39 = .ok (.ishr, 1) := dk_122 (dk_at dksX4_rows_1 16 rfl rfl)
theorem dX4_rows_40 : decode cX4_rows 40 = .ok (.iconst 1, 1) := dk_4 (dk_at dksX4_rows_1 17 rfl rfl)
theorem dX4_rows_41 : decode cX4_rows 41 = .ok (.iand, 1) := dk_126 (dk_at dksX4_rows_1 18 rfl rfl)
theorem dX4_rows_42 : decode cX4_rows 42 = .ok (.ifCond .ne 6, 3) := dk_154 0 6 (dk_at dksX4_rows_1 19 rfl rfl)
theorem dX4_rows_45 : decode cX4_rows 45 = .ok (.goto 24, 3) := dk_167 0 24 (dk_at dksX4_rows_2 0 rfl rfl)
theorem dX4_rows_48 : decode cX4_rows 48 = .ok (.aload_n 0, 1) := dk_42 (dk_at dksX4_rows_2 3 rfl rfl)
theorem dX4_rows_49 : decode cX4_rows 49 = .ok (.getfield 114, 3) := dk_180 0 114 (dk_at dksX4_rows_2 4 rfl rfl)
theorem dX4_rows_52 : decode cX4_rows 52 = .ok (.aload_n 0, 1) := dk_42 (dk_at dksX4_rows_2 7 rfl rfl)
theorem dX4_rows_53 : decode cX4_rows 53 = .ok (.getfield 475, 3) := dk_180 1 219 (dk_at dksX4_rows_2 8 rfl rfl)
theorem dX4_rows_56 : decode cX4_rows 56 = .ok (.iload 5, 2) := dk_21 5 (dk_at dksX4_rows_2 11 rfl rfl)
theorem dX4_rows_58 : decode cX4_rows 58 = .ok (.iastore, 1) := dk_79 (dk_at dksX4_rows_2 13 rfl rfl)
theorem dX4_rows_59 : decode cX4_rows 59 = .ok (.aload_n 0, 1) := dk_42 (dk_at dksX4_rows_2 14 rfl rfl)
theorem dX4_rows_60 : decode cX4_rows 60 = .ok (.dup, 1) := dk_89 (dk_at dksX4_rows_2 15 rfl rfl)
theorem dX4_rows_61 : decode cX4_rows 61 = .ok (.getfield 475, 3) := dk_180 1 219 (dk_at dksX4_rows_2 16 rfl rfl)
theorem dX4_rows_64 : decode cX4_rows 64 = .ok (.iconst 1, 1) := dk_4 (dk_at dksX4_rows_2 19 rfl rfl)
theorem dX4_rows_65 : decode cX4_rows 65 = .ok (.iadd, 1) := dk_96 (dk_at dksX4_rows_2 20 rfl rfl)
theorem dX4_rows_66 : decode cX4_rows 66 = .ok (.putfield 475, 3) := dk_181 1 219 (dk_at dksX4_rows_2 21 rfl rfl)
theorem dX4_rows_69 : decode cX4_rows 69 = .ok (.iinc 5 1, 3) := dk_132 5 1 (dk_at dksX4_rows_3 0 rfl rfl)
theorem dX4_rows_72 : decode cX4_rows 72 = .ok (.goto (-55), 3) := dk_167 255 201 (dk_at dksX4_rows_3 3 rfl rfl)
theorem dX4_rows_75 : decode cX4_rows 75 = .ok (.aload_n 0, 1) := dk_42 (dk_at dksX4_rows_3 6 rfl rfl)
theorem dX4_rows_76 : decode cX4_rows 76 = .ok (.iconst 0, 1) := dk_3 (dk_at dksX4_rows_3 7 rfl rfl)
theorem dX4_rows_77 : decode cX4_rows 77 = .ok (.putfield 478, 3) := dk_181 1 222 (dk_at dksX4_rows_3 8 rfl rfl)
theorem dX4_rows_80 : decode cX4_rows 80 = .ok (.aload_n 0, 1) := dk_42 (dk_at dksX4_rows_3 11 rfl rfl)
theorem dX4_rows_81 : decode cX4_rows 81 = .ok (.iconst 0, 1) := dk_3 (dk_at dksX4_rows_3 12 rfl rfl)
theorem dX4_rows_82 : decode cX4_rows 82 = .ok (.putfield 481, 3) := dk_181 1 225 (dk_at dksX4_rows_3 13 rfl rfl)
theorem dX4_rows_85 : decode cX4_rows 85 = .ok (.aload_n 0, 1) := dk_42 (dk_at dksX4_rows_3 16 rfl rfl)
theorem dX4_rows_86 : decode cX4_rows 86 = .ok (.iconst 0, 1) := dk_3 (dk_at dksX4_rows_3 17 rfl rfl)
theorem dX4_rows_87 : decode cX4_rows 87 = .ok (.putfield 484, 3) := dk_181 1 228 (dk_at dksX4_rows_3 18 rfl rfl)
theorem dX4_rows_90 : decode cX4_rows 90 = .ok (.aload_n 0, 1) := dk_42 (dk_at dksX4_rows_3 21 rfl rfl)
theorem dX4_rows_91 : decode cX4_rows 91 = .ok (.iconst 0, 1) := dk_3 (dk_at dksX4_rows_3 22 rfl rfl)
theorem dX4_rows_92 : decode cX4_rows 92 = .ok (.putfield 487, 3) := dk_181 1 231 (dk_at dksX4_rows_4 0 rfl rfl)
theorem dX4_rows_95 : decode cX4_rows 95 = .ok (.iconst 0, 1) := dk_3 (dk_at dksX4_rows_4 3 rfl rfl)
theorem dX4_rows_96 : decode cX4_rows 96 = .ok (.istore 5, 2) := dk_54 5 (dk_at dksX4_rows_4 4 rfl rfl)
theorem dX4_rows_98 : decode cX4_rows 98 = .ok (.iconst 0, 1) := dk_3 (dk_at dksX4_rows_4 6 rfl rfl)
theorem dX4_rows_99 : decode cX4_rows 99 = .ok (.istore 6, 2) := dk_54 6 (dk_at dksX4_rows_4 7 rfl rfl)
theorem dX4_rows_101 : decode cX4_rows 101 = .ok (.aload_n 0, 1) := dk_42 (dk_at dksX4_rows_4 9 rfl rfl)
theorem dX4_rows_102 : decode cX4_rows 102 = .ok (.getfield 120, 3) := dk_180 0 120 (dk_at dksX4_rows_4 10 rfl rfl)
theorem dX4_rows_105 : decode cX4_rows 105 = .ok (.iconst 0, 1) := dk_3 (dk_at dksX4_rows_4 13 rfl rfl)
theorem dX4_rows_106 : decode cX4_rows 106 = .ok (.iconst 0, 1) := dk_3 (dk_at dksX4_rows_4 14 rfl rfl)
theorem dX4_rows_107 : decode cX4_rows 107 = .ok (.iastore, 1) := dk_79 (dk_at dksX4_rows_4 15 rfl rfl)
theorem dX4_rows_108 : decode cX4_rows 108 = .ok (.aload_n 0, 1) := dk_42 (dk_at dksX4_rows_4 16 rfl rfl)
theorem dX4_rows_109 : decode cX4_rows 109 = .ok (.getfield 123, 3) := dk_180 0 123 (dk_at dksX4_rows_4 17 rfl rfl)
theorem dX4_rows_112 : decode cX4_rows 112 = .ok (.iconst 0, 1) := dk_3 (dk_at dksX4_rows_4 20 rfl rfl)
theorem dX4_rows_113 : decode cX4_rows 113 = .ok (.iconst 0, 1) := dk_3 (dk_at dksX4_rows_4 21 rfl rfl)
theorem dX4_rows_114 : decode cX4_rows 114 = .ok (.iastore, 1) := dk_79 (dk_at dksX4_rows_4 22 rfl rfl)
theorem dX4_rows_115 : decode cX4_rows 115 = .ok (.aload_n 0, 1) := dk_42 (dk_at dksX4_rows_4 23 rfl rfl)
theorem dX4_rows_116 : decode cX4_rows 116 = .ok (.getfield 126, 3) := dk_180 0 126 (dk_at dksX4_rows_5 0 rfl rfl)
theorem dX4_rows_119 : decode cX4_rows 119 = .ok (.iconst 0, 1) := dk_3 (dk_at dksX4_rows_5 3 rfl rfl)
theorem dX4_rows_120 : decode cX4_rows 120 = .ok (.iconst 0, 1) := dk_3 (dk_at dksX4_rows_5 4 rfl rfl)
theorem dX4_rows_121 : decode cX4_rows 121 = .ok (.iastore, 1) := dk_79 (dk_at dksX4_rows_5 5 rfl rfl)
theorem dX4_rows_122 : decode cX4_rows 122 = .ok (.aload_n 0, 1) := dk_42 (dk_at dksX4_rows_5 6 rfl rfl)
theorem dX4_rows_123 : decode cX4_rows 123 = .ok (.getfield 129, 3) := dk_180 0 129 (dk_at dksX4_rows_5 7 rfl rfl)
theorem dX4_rows_126 : decode cX4_rows 126 = .ok (.iconst 0, 1) := dk_3 (dk_at dksX4_rows_5 10 rfl rfl)
theorem dX4_rows_127 : decode cX4_rows 127 = .ok (.iconst 0, 1) := dk_3 (dk_at dksX4_rows_5 11 rfl rfl)
theorem dX4_rows_128 : decode cX4_rows 128 = .ok (.iastore, 1) := dk_79 (dk_at dksX4_rows_5 12 rfl rfl)
theorem dX4_rows_129 : decode cX4_rows 129 = .ok (.iload 5, 2) := dk_21 5 (dk_at dksX4_rows_5 13 rfl rfl)
theorem dX4_rows_131 : decode cX4_rows 131 = .ok (.ifCond .lt 313, 3) := dk_155 1 57 (dk_at dksX4_rows_5 15 rfl rfl)
theorem dX4_rows_134 : decode cX4_rows 134 = .ok (.aload_n 0, 1) := dk_42 (dk_at dksX4_rows_5 18 rfl rfl)
theorem dX4_rows_135 : decode cX4_rows 135 = .ok (.getfield 120, 3) := dk_180 0 120 (dk_at dksX4_rows_5 19 rfl rfl)
theorem dX4_rows_138 : decode cX4_rows 138 = .ok (.iload 5, 2) := dk_21 5 (dk_at dksX4_rows_5 22 rfl rfl)
theorem dX4_rows_140 : decode cX4_rows 140 = .ok (.iaload, 1) := dk_46 (dk_at dksX4_rows_6 0 rfl rfl)
theorem dX4_rows_141 : decode cX4_rows 141 = .ok (.istore 7, 2) := dk_54 7 (dk_at dksX4_rows_6 1 rfl rfl)
theorem dX4_rows_143 : decode cX4_rows 143 = .ok (.aload_n 0, 1) := dk_42 (dk_at dksX4_rows_6 3 rfl rfl)
theorem dX4_rows_144 : decode cX4_rows 144 = .ok (.getfield 120, 3) := dk_180 0 120 (dk_at dksX4_rows_6 4 rfl rfl)
theorem dX4_rows_147 : decode cX4_rows 147 = .ok (.iload 5, 2) := dk_21 5 (dk_at dksX4_rows_6 7 rfl rfl)
theorem dX4_rows_149 : decode cX4_rows 149 = .ok (.dup2, 1) := dk_92 (dk_at dksX4_rows_6 9 rfl rfl)
theorem dX4_rows_150 : decode cX4_rows 150 = .ok (.iaload, 1) := dk_46 (dk_at dksX4_rows_6 10 rfl rfl)
theorem dX4_rows_151 : decode cX4_rows 151 = .ok (.iconst 1, 1) := dk_4 (dk_at dksX4_rows_6 11 rfl rfl)
theorem dX4_rows_152 : decode cX4_rows 152 = .ok (.iadd, 1) := dk_96 (dk_at dksX4_rows_6 12 rfl rfl)
theorem dX4_rows_153 : decode cX4_rows 153 = .ok (.iastore, 1) := dk_79 (dk_at dksX4_rows_6 13 rfl rfl)
theorem dX4_rows_154 : decode cX4_rows 154 = .ok (.iload 7, 2) := dk_21 7 (dk_at dksX4_rows_6 14 rfl rfl)
theorem dX4_rows_156 : decode cX4_rows 156 = .ok (.aload_n 0, 1) := dk_42 (dk_at dksX4_rows_6 16 rfl rfl)
theorem dX4_rows_157 : decode cX4_rows 157 = .ok (.getfield 475, 3) := dk_180 1 219 (dk_at dksX4_rows_6 17 rfl rfl)
theorem dX4_rows_160 : decode cX4_rows 160 = .ok (.if_icmp .lt 30, 3) := dk_161 0 30 (dk_at dksX4_rows_6 20 rfl rfl)
theorem dX4_rows_163 : decode cX4_rows 163 = .ok (.iinc 5 (-1), 3) := dk_132 5 255 (dk_at dksX4_rows_7 0 rfl rfl)
theorem dX4_rows_166 : decode cX4_rows 166 = .ok (.iload 5, 2) := dk_21 5 (dk_at dksX4_rows_7 3 rfl rfl)
theorem dX4_rows_168 : decode cX4_rows 168 = .ok (.ifCond .lt (-39), 3) := dk_155 255 217 (dk_at dksX4_rows_7 5 rfl rfl)
theorem dX4_rows_171 : decode cX4_rows 171 = .ok (.iload 6, 2) := dk_21 6 (dk_at dksX4_rows_7 8 rfl rfl)
theorem dX4_rows_173 : decode cX4_rows 173 = .ok (.iconst 1, 1) := dk_4 (dk_at dksX4_rows_7 10 rfl rfl)
theorem dX4_rows_174 : decode cX4_rows 174 = .ok (.aload_n 0, 1) := dk_42 (dk_at dksX4_rows_7 11 rfl rfl)
theorem dX4_rows_175 : decode cX4_rows 175 = .ok (.getfield 117, 3) := dk_180 0 117 (dk_at dksX4_rows_7 12 rfl rfl)
theorem dX4_rows_178 : decode cX4_rows 178 = .ok (.iload 5, 2) := dk_21 5 (dk_at dksX4_rows_7 15 rfl rfl)
theorem dX4_rows_180 : decode cX4_rows 180 = .ok (.iaload, 1) := dk_46 (dk_at dksX4_rows_7 17 rfl rfl)
theorem dX4_rows_181 : decode cX4_rows 181 = .ok (.ishl, 1) := dk_120 (dk_at dksX4_rows_7 18 rfl rfl)
theorem dX4_rows_182 : decode cX4_rows 182 = .ok (.iconst (-1), 1) := dk_2 (dk_at dksX4_rows_7 19 rfl rfl)
theorem dX4_rows_183 : decode cX4_rows 183 = .ok (.ixor, 1) := dk_130 (dk_at dksX4_rows_7 20 rfl rfl)
theorem dX4_rows_184 : decode cX4_rows 184 = .ok (.iand, 1) := dk_126 (dk_at dksX4_rows_7 21 rfl rfl)
theorem dX4_rows_185 : decode cX4_rows 185 = .ok (.istore 6, 2) := dk_54 6 (dk_at dksX4_rows_7 22 rfl rfl)
theorem dX4_rows_187 : decode cX4_rows 187 = .ok (.goto (-58), 3) := dk_167 255 198 (dk_at dksX4_rows_8 0 rfl rfl)
theorem dX4_rows_190 : decode cX4_rows 190 = .ok (.aload_n 0, 1) := dk_42 (dk_at dksX4_rows_8 3 rfl rfl)
theorem dX4_rows_191 : decode cX4_rows 191 = .ok (.getfield 114, 3) := dk_180 0 114 (dk_at dksX4_rows_8 4 rfl rfl)
theorem dX4_rows_194 : decode cX4_rows 194 = .ok (.iload 7, 2) := dk_21 7 (dk_at dksX4_rows_8 7 rfl rfl)
theorem dX4_rows_196 : decode cX4_rows 196 = .ok (.iaload, 1) := dk_46 (dk_at dksX4_rows_8 9 rfl rfl)
theorem dX4_rows_197 : decode cX4_rows 197 = .ok (.istore 8, 2) := dk_54 8 (dk_at dksX4_rows_8 10 rfl rfl)
theorem dX4_rows_199 : decode cX4_rows 199 = .ok (.iload 6, 2) := dk_21 6 (dk_at dksX4_rows_8 12 rfl rfl)
theorem dX4_rows_201 : decode cX4_rows 201 = .ok (.iload 8, 2) := dk_21 8 (dk_at dksX4_rows_8 14 rfl rfl)
theorem dX4_rows_203 : decode cX4_rows 203 = .ok (.ishr, 1) := dk_122 (dk_at dksX4_rows_8 16 rfl rfl)
theorem dX4_rows_204 : decode cX4_rows 204 = .ok (.iconst 1, 1) := dk_4 (dk_at dksX4_rows_8 17 rfl rfl)
theorem dX4_rows_205 : decode cX4_rows 205 = .ok (.iand, 1) := dk_126 (dk_at dksX4_rows_8 18 rfl rfl)
theorem dX4_rows_206 : decode cX4_rows 206 = .ok (.iconst 1, 1) := dk_4 (dk_at dksX4_rows_8 19 rfl rfl)
theorem dX4_rows_207 : decode cX4_rows 207 = .ok (.if_icmp .ne 6, 3) := dk_160 0 6 (dk_at dksX4_rows_8 20 rfl rfl)
theorem dX4_rows_210 : decode cX4_rows 210 = .ok (.goto (-81), 3) := dk_167 255 175 (dk_at dksX4_rows_9 0 rfl rfl)
theorem dX4_rows_213 : decode cX4_rows 213 = .ok (.aload_n 0, 1) := dk_42 (dk_at dksX4_rows_9 3 rfl rfl)
theorem dX4_rows_214 : decode cX4_rows 214 = .ok (.getfield 32, 3) := dk_180 0 32 (dk_at dksX4_rows_9 4 rfl rfl)
theorem dX4_rows_217 : decode cX4_rows 217 = .ok (.iload 8, 2) := dk_21 8 (dk_at dksX4_rows_9 7 rfl rfl)
theorem dX4_rows_219 : decode cX4_rows 219 = .ok (.iaload, 1) := dk_46 (dk_at dksX4_rows_9 9 rfl rfl)
theorem dX4_rows_220 : decode cX4_rows 220 = .ok (.aload_n 0, 1) := dk_42 (dk_at dksX4_rows_9 10 rfl rfl)
theorem dX4_rows_221 : decode cX4_rows 221 = .ok (.iconst 0, 1) := dk_3 (dk_at dksX4_rows_9 11 rfl rfl)
theorem dX4_rows_222 : decode cX4_rows 222 = .ok (.iload 8, 2) := dk_21 8 (dk_at dksX4_rows_9 12 rfl rfl)
theorem dX4_rows_224 : decode cX4_rows 224 = .ok (.invokevirtual 450, 3) := dk_182 1 194 (dk_at dksX4_rows_9 14 rfl rfl)
theorem dX4_rows_227 : decode cX4_rows 227 = .ok (.isub, 1) := dk_100 (dk_at dksX4_rows_9 17 rfl rfl)
theorem dX4_rows_228 : decode cX4_rows 228 = .ok (.istore 9, 2) := dk_54 9 (dk_at dksX4_rows_9 18 rfl rfl)
theorem dX4_rows_230 : decode cX4_rows 230 = .ok (.iload 5, 2) := dk_21 5 (dk_at dksX4_rows_9 20 rfl rfl)
theorem dX4_rows_232 : decode cX4_rows 232 = .ok (.ifCond .ne 8, 3) := dk_154 0 8 (dk_at dksX4_rows_10 0 rfl rfl)
theorem dX4_rows_235 : decode cX4_rows 235 = .ok (.bipush 99, 2) := dk_16 99 (dk_at dksX4_rows_10 3 rfl rfl)
theorem dX4_rows_237 : decode cX4_rows 237 = .ok (.goto 17, 3) := dk_167 0 17 (dk_at dksX4_rows_10 5 rfl rfl)
theorem dX4_rows_240 : decode cX4_rows 240 = .ok (.aload_n 0, 1) := dk_42 (dk_at dksX4_rows_10 8 rfl rfl)
theorem dX4_rows_241 : decode cX4_rows 241 = .ok (.getfield 26, 3) := dk_180 0 26 (dk_at dksX4_rows_10 9 rfl rfl)
theorem dX4_rows_244 : decode cX4_rows 244 = .ok (.aload_n 0, 1) := dk_42 (dk_at dksX4_rows_10 12 rfl rfl)
theorem dX4_rows_245 : decode cX4_rows 245 = .ok (.getfield 117, 3) := dk_180 0 117 (dk_at dksX4_rows_10 13 rfl rfl)
theorem dX4_rows_248 : decode cX4_rows 248 = .ok (.iload 5, 2) := dk_21 5 (dk_at dksX4_rows_10 16 rfl rfl)
theorem dX4_rows_250 : decode cX4_rows 250 = .ok (.iconst 1, 1) := dk_4 (dk_at dksX4_rows_10 18 rfl rfl)
theorem dX4_rows_251 : decode cX4_rows 251 = .ok (.isub, 1) := dk_100 (dk_at dksX4_rows_10 19 rfl rfl)
theorem dX4_rows_252 : decode cX4_rows 252 = .ok (.iaload, 1) := dk_46 (dk_at dksX4_rows_10 20 rfl rfl)
theorem dX4_rows_253 : decode cX4_rows 253 = .ok (.iaload, 1) := dk_46 (dk_at dksX4_rows_10 21 rfl rfl)
theorem dX4_rows_254 : decode cX4_rows 254 = .ok (.istore 10, 2) := dk_54 10 (dk_at dksX4_rows_10 22 rfl rfl)
theorem dX4_rows_256 : decode cX4_rows 256 = .ok (.aload_n 0, 1) := dk_42 (dk_at dksX4_rows_11 0 rfl rfl)
theorem dX4_rows_257 : decode cX4_rows 257 = .ok (.getfield 126, 3) := dk_180 0 126 (dk_at dksX4_rows_11 1 rfl rfl)
theorem dX4_rows_260 : decode cX4_rows 260 = .ok (.iload 5, 2) := dk_21 5 (dk_at dksX4_rows_11 4 rfl rfl)
theorem dX4_rows_262 : decode cX4_rows 262 = .ok (.iaload, 1) := dk_46 (dk_at dksX4_rows_11 6 rfl rfl)
theorem dX4_rows_263 : decode cX4_rows 263 = .ok (.iconst 2, 1) := dk_5 (dk_at dksX4_rows_11 7 rfl rfl)
theorem dX4_rows_264 : decode cX4_rows 264 = .ok (.iload 10, 2) := dk_21 10 (dk_at dksX4_rows_11 8 rfl rfl)
theorem dX4_rows_266 : decode cX4_rows 266 = .ok (.aload_n 0, 1) := dk_42 (dk_at dksX4_rows_11 10 rfl rfl)
theorem dX4_rows_267 : decode cX4_rows 267 = .ok (.getfield 26, 3) := dk_180 0 26 (dk_at dksX4_rows_11 11 rfl rfl)
theorem dX4_rows_270 : decode cX4_rows 270 = .ok (.iload 8, 2) := dk_21 8 (dk_at dksX4_rows_11 14 rfl rfl)
theorem dX4_rows_272 : decode cX4_rows 272 = .ok (.iaload, 1) := dk_46 (dk_at dksX4_rows_11 16 rfl rfl)
theorem dX4_rows_273 : decode cX4_rows 273 = .ok (.isub, 1) := dk_100 (dk_at dksX4_rows_11 17 rfl rfl)
theorem dX4_rows_274 : decode cX4_rows 274 = .ok (.invokestatic 269, 3) := dk_184 1 13 (dk_at dksX4_rows_11 18 rfl rfl)
theorem dX4_rows_277 : decode cX4_rows 277 = .ok (.imul, 1) := dk_104 (dk_at dksX4_rows_11 21 rfl rfl)
theorem dX4_rows_278 : decode cX4_rows 278 = .ok (.iadd, 1) := dk_96 (dk_at dksX4_rows_11 22 rfl rfl)
theorem dX4_rows_279 : decode cX4_rows 279 = .ok (.bipush 15, 2) := dk_16 15 (dk_at dksX4_rows_12 0 rfl rfl)
theorem dX4_rows_281 : decode cX4_rows 281 = .ok (.iadd, 1) := dk_96 (dk_at dksX4_rows_12 2 rfl rfl)
theorem dX4_rows_282 : decode cX4_rows 282 = .ok (.iload 9, 2) := dk_21 9 (dk_at dksX4_rows_12 3 rfl rfl)
theorem dX4_rows_284 : decode cX4_rows 284 = .ok (.bipush 9, 2) := dk_16 9 (dk_at dksX4_rows_12 5 rfl rfl)
theorem dX4_rows_286 : decode cX4_rows 286 = .ok (.iadd, 1) := dk_96 (dk_at dksX4_rows_12 7 rfl rfl)
theorem dX4_rows_287 : decode cX4_rows 287 = .ok (.bipush 10, 2) := dk_16 10 (dk_at dksX4_rows_12 8 rfl rfl)
theorem dX4_rows_289 : decode cX4_rows 289 = .ok (.idiv, 1) := dk_108 (dk_at dksX4_rows_12 10 rfl rfl)
theorem dX4_rows_290 : decode cX4_rows 290 = .ok (.iadd, 1) := dk_96 (dk_at dksX4_rows_12 11 rfl rfl)
theorem dX4_rows_291 : decode cX4_rows 291 = .ok (.istore 11, 2) := dk_54 11 (dk_at dksX4_rows_12 12 rfl rfl)
theorem dX4_rows_293 : decode cX4_rows 293 = .ok (.aload_n 0, 1) := dk_42 (dk_at dksX4_rows_12 14 rfl rfl)
theorem dX4_rows_294 : decode cX4_rows 294 = .ok (.getfield 129, 3) := dk_180 0 129 (dk_at dksX4_rows_12 15 rfl rfl)
theorem dX4_rows_297 : decode cX4_rows 297 = .ok (.iload 5, 2) := dk_21 5 (dk_at dksX4_rows_12 18 rfl rfl)
theorem dX4_rows_299 : decode cX4_rows 299 = .ok (.iaload, 1) := dk_46 (dk_at dksX4_rows_12 20 rfl rfl)
theorem dX4_rows_300 : decode cX4_rows 300 = .ok (.aload_n 0, 1) := dk_42 (dk_at dksX4_rows_12 21 rfl rfl)
theorem dX4_rows_301 : decode cX4_rows 301 = .ok (.iload 5, 2) := dk_21 5 (dk_at dksX4_rows_12 22 rfl rfl)
theorem dX4_rows_303 : decode cX4_rows 303 = .ok (.iload 8, 2) := dk_21 8 (dk_at dksX4_rows_13 0 rfl rfl)
theorem dX4_rows_305 : decode cX4_rows 305 = .ok (.invokevirtual 490, 3) := dk_182 1 234 (dk_at dksX4_rows_13 2 rfl rfl)
theorem dX4_rows_308 : decode cX4_rows 308 = .ok (.ifCond .eq 15, 3) := dk_153 0 15 (dk_at dksX4_rows_13 5 rfl rfl)
theorem dX4_rows_311 : decode cX4_rows 311 = .ok (.aload_n 0, 1) := dk_42 (dk_at dksX4_rows_13 8 rfl rfl)
theorem dX4_rows_312 : decode cX4_rows 312 = .ok (.getfield 29, 3) := dk_180 0 29 (dk_at dksX4_rows_13 9 rfl rfl)
theorem dX4_rows_315 : decode cX4_rows 315 = .ok (.iload 8, 2) := dk_21 8 (dk_at dksX4_rows_13 12 rfl rfl)
theorem dX4_rows_317 : decode cX4_rows 317 = .ok (.iaload, 1) := dk_46 (dk_at dksX4_rows_13 14 rfl rfl)
theorem dX4_rows_318 : decode cX4_rows 318 = .ok (.iconst 3, 1) := dk_6 (dk_at dksX4_rows_13 15 rfl rfl)
theorem dX4_rows_319 : decode cX4_rows 319 = .ok (.idiv, 1) := dk_108 (dk_at dksX4_rows_13 16 rfl rfl)
theorem dX4_rows_320 : decode cX4_rows 320 = .ok (.goto 10, 3) := dk_167 0 10 (dk_at dksX4_rows_13 17 rfl rfl)
theorem dX4_rows_323 : decode cX4_rows 323 = .ok (.aload_n 0, 1) := dk_42 (dk_at dksX4_rows_13 20 rfl rfl)
theorem dX4_rows_324 : decode cX4_rows 324 = .ok (.getfield 29, 3) := dk_180 0 29 (dk_at dksX4_rows_13 21 rfl rfl)
theorem dX4_rows_327 : decode cX4_rows 327 = .ok (.iload 8, 2) := dk_21 8 (dk_at dksX4_rows_14 0 rfl rfl)
theorem dX4_rows_329 : decode cX4_rows 329 = .ok (.iaload, 1) := dk_46 (dk_at dksX4_rows_14 2 rfl rfl)
theorem dX4_rows_330 : decode cX4_rows 330 = .ok (.iadd, 1) := dk_96 (dk_at dksX4_rows_14 3 rfl rfl)
theorem dX4_rows_331 : decode cX4_rows 331 = .ok (.istore 12, 2) := dk_54 12 (dk_at dksX4_rows_14 4 rfl rfl)
theorem dX4_rows_333 : decode cX4_rows 333 = .ok (.iload 12, 2) := dk_21 12 (dk_at dksX4_rows_14 6 rfl rfl)
theorem dX4_rows_335 : decode cX4_rows 335 = .ok (.aload_n 0, 1) := dk_42 (dk_at dksX4_rows_14 8 rfl rfl)
theorem dX4_rows_336 : decode cX4_rows 336 = .ok (.getfield 13, 3) := dk_180 0 13 (dk_at dksX4_rows_14 9 rfl rfl)
theorem dX4_rows_339 : decode cX4_rows 339 = .ok (.if_icmp .gt (-210), 3) := dk_163 255 46 (dk_at dksX4_rows_14 12 rfl rfl)
theorem dX4_rows_342 : decode cX4_rows 342 = .ok (.iload 11, 2) := dk_21 11 (dk_at dksX4_rows_14 15 rfl rfl)
theorem dX4_rows_344 : decode cX4_rows 344 = .ok (.aload_n 0, 1) := dk_42 (dk_at dksX4_rows_14 17 rfl rfl)
theorem dX4_rows_345 : decode cX4_rows 345 = .ok (.getfield 7, 3) := dk_180 0 7 (dk_at dksX4_rows_14 18 rfl rfl)
theorem dX4_rows_348 : decode cX4_rows 348 = .ok (.if_icmp .le 6, 3) := dk_164 0 6 (dk_at dksX4_rows_14 21 rfl rfl)
theorem dX4_rows_351 : decode cX4_rows 351 = .ok (.goto (-222), 3) := dk_167 255 34 (dk_at dksX4_rows_15 0 rfl rfl)
theorem dX4_rows_354 : decode cX4_rows 354 = .ok (.aload_n 0, 1) := dk_42 (dk_at dksX4_rows_15 3 rfl rfl)
theorem dX4_rows_355 : decode cX4_rows 355 = .ok (.getfield 117, 3) := dk_180 0 117 (dk_at dksX4_rows_15 4 rfl rfl)
theorem dX4_rows_358 : decode cX4_rows 358 = .ok (.iload 5, 2) := dk_21 5 (dk_at dksX4_rows_15 7 rfl rfl)
theorem dX4_rows_360 : decode cX4_rows 360 = .ok (.iload 8, 2) := dk_21 8 (dk_at dksX4_rows_15 9 rfl rfl)
theorem dX4_rows_362 : decode cX4_rows 362 = .ok (.iastore, 1) := dk_79 (dk_at dksX4_rows_15 11 rfl rfl)
theorem dX4_rows_363 : decode cX4_rows 363 = .ok (.iload 6, 2) := dk_21 6 (dk_at dksX4_rows_15 12 rfl rfl)
theorem dX4_rows_365 : decode cX4_rows 365 = .ok (.iconst 1, 1) := dk_4 (dk_at dksX4_rows_15 14 rfl rfl)
theorem dX4_rows_366 : decode cX4_rows 366 = .ok (.iload 8, 2) := dk_21 8 (dk_at dksX4_rows_15 15 rfl rfl)
theorem dX4_rows_368 : decode cX4_rows 368 = .ok (.ishl, 1) := dk_120 (dk_at dksX4_rows_15 17 rfl rfl)
theorem dX4_rows_369 : decode cX4_rows 369 = .ok (.ior, 1) := dk_128 (dk_at dksX4_rows_15 18 rfl rfl)
theorem dX4_rows_370 : decode cX4_rows 370 = .ok (.istore 6, 2) := dk_54 6 (dk_at dksX4_rows_15 19 rfl rfl)
theorem dX4_rows_372 : decode cX4_rows 372 = .ok (.iinc 5 1, 3) := dk_132 5 1 (dk_at dksX4_rows_15 21 rfl rfl)
theorem dX4_rows_375 : decode cX4_rows 375 = .ok (.aload_n 0, 1) := dk_42 (dk_at dksX4_rows_16 0 rfl rfl)
theorem dX4_rows_376 : decode cX4_rows 376 = .ok (.getfield 123, 3) := dk_180 0 123 (dk_at dksX4_rows_16 1 rfl rfl)
theorem dX4_rows_379 : decode cX4_rows 379 = .ok (.iload 5, 2) := dk_21 5 (dk_at dksX4_rows_16 4 rfl rfl)
theorem dX4_rows_381 : decode cX4_rows 381 = .ok (.aload_n 0, 1) := dk_42 (dk_at dksX4_rows_16 6 rfl rfl)
theorem dX4_rows_382 : decode cX4_rows 382 = .ok (.getfield 123, 3) := dk_180 0 123 (dk_at dksX4_rows_16 7 rfl rfl)
theorem dX4_rows_385 : decode cX4_rows 385 = .ok (.iload 5, 2) := dk_21 5 (dk_at dksX4_rows_16 10 rfl rfl)
theorem dX4_rows_387 : decode cX4_rows 387 = .ok (.iconst 1, 1) := dk_4 (dk_at dksX4_rows_16 12 rfl rfl)
theorem dX4_rows_388 : decode cX4_rows 388 = .ok (.isub, 1) := dk_100 (dk_at dksX4_rows_16 13 rfl rfl)
theorem dX4_rows_389 : decode cX4_rows 389 = .ok (.iaload, 1) := dk_46 (dk_at dksX4_rows_16 14 rfl rfl)
theorem dX4_rows_390 : decode cX4_rows 390 = .ok (.iload 9, 2) := dk_21 9 (dk_at dksX4_rows_16 15 rfl rfl)
theorem dX4_rows_392 : decode cX4_rows 392 = .ok (.iadd, 1) := dk_96 (dk_at dksX4_rows_16 17 rfl rfl)
theorem dX4_rows_393 : decode cX4_rows 393 = .ok (.iastore, 1) := dk_79 (dk_at dksX4_rows_16 18 rfl rfl)
theorem dX4_rows_394 : decode cX4_rows 394 = .ok (.aload_n 0, 1) := dk_42 (dk_at dksX4_rows_16 19 rfl rfl)
theorem dX4_rows_395 : decode cX4_rows 395 = .ok (.getfield 126, 3) := dk_180 0 126 (dk_at dksX4_rows_16 20 rfl rfl)
theorem dX4_rows_398 : decode cX4_rows 398 = .ok (.iload 5, 2) := dk_21 5 (dk_at dksX4_rows_17 0 rfl rfl)
theorem dX4_rows_400 : decode cX4_rows 400 = .ok (.iload 11, 2) := dk_21 11 (dk_at dksX4_rows_17 2 rfl rfl)
theorem dX4_rows_402 : decode cX4_rows 402 = .ok (.iastore, 1) := dk_79 (dk_at dksX4_rows_17 4 rfl rfl)
theorem dX4_rows_403 : decode cX4_rows 403 = .ok (.aload_n 0, 1) := dk_42 (dk_at dksX4_rows_17 5 rfl rfl)
theorem dX4_rows_404 : decode cX4_rows 404 = .ok (.getfield 129, 3) := dk_180 0 129 (dk_at dksX4_rows_17 6 rfl rfl)
theorem dX4_rows_407 : decode cX4_rows 407 = .ok (.iload 5, 2) := dk_21 5 (dk_at dksX4_rows_17 9 rfl rfl)
theorem dX4_rows_409 : decode cX4_rows 409 = .ok (.iload 12, 2) := dk_21 12 (dk_at dksX4_rows_17 11 rfl rfl)
theorem dX4_rows_411 : decode cX4_rows 411 = .ok (.iastore, 1) := dk_79 (dk_at dksX4_rows_17 13 rfl rfl)
theorem dX4_rows_412 : decode cX4_rows 412 = .ok (.aload_n 0, 1) := dk_42 (dk_at dksX4_rows_17 14 rfl rfl)
theorem dX4_rows_413 : decode cX4_rows 413 = .ok (.getfield 120, 3) := dk_180 0 120 (dk_at dksX4_rows_17 15 rfl rfl)
theorem dX4_rows_416 : decode cX4_rows 416 = .ok (.iload 5, 2) := dk_21 5 (dk_at dksX4_rows_17 18 rfl rfl)
theorem dX4_rows_418 : decode cX4_rows 418 = .ok (.iconst 0, 1) := dk_3 (dk_at dksX4_rows_17 20 rfl rfl)
theorem dX4_rows_419 : decode cX4_rows 419 = .ok (.iastore, 1) := dk_79 (dk_at dksX4_rows_17 21 rfl rfl)
theorem dX4_rows_420 : decode cX4_rows 420 = .ok (.aload_n 0, 1) := dk_42 (dk_at dksX4_rows_17 22 rfl rfl)
theorem dX4_rows_421 : decode cX4_rows 421 = .ok (.iload 5, 2) := dk_21 5 (dk_at dksX4_rows_18 0 rfl rfl)
theorem dX4_rows_423 : decode cX4_rows 423 = .ok (.iload 11, 2) := dk_21 11 (dk_at dksX4_rows_18 2 rfl rfl)
theorem dX4_rows_425 : decode cX4_rows 425 = .ok (.iconst 2, 1) := dk_5 (dk_at dksX4_rows_18 4 rfl rfl)
theorem dX4_rows_426 : decode cX4_rows 426 = .ok (.bipush 99, 2) := dk_16 99 (dk_at dksX4_rows_18 5 rfl rfl)
theorem dX4_rows_428 : decode cX4_rows 428 = .ok (.aload_n 0, 1) := dk_42 (dk_at dksX4_rows_18 7 rfl rfl)
theorem dX4_rows_429 : decode cX4_rows 429 = .ok (.getfield 26, 3) := dk_180 0 26 (dk_at dksX4_rows_18 8 rfl rfl)
theorem dX4_rows_432 : decode cX4_rows 432 = .ok (.iload 8, 2) := dk_21 8 (dk_at dksX4_rows_18 11 rfl rfl)
theorem dX4_rows_434 : decode cX4_rows 434 = .ok (.iaload, 1) := dk_46 (dk_at dksX4_rows_18 13 rfl rfl)
theorem dX4_rows_435 : decode cX4_rows 435 = .ok (.isub, 1) := dk_100 (dk_at dksX4_rows_18 14 rfl rfl)
theorem dX4_rows_436 : decode cX4_rows 436 = .ok (.imul, 1) := dk_104 (dk_at dksX4_rows_18 15 rfl rfl)
theorem dX4_rows_437 : decode cX4_rows 437 = .ok (.iadd, 1) := dk_96 (dk_at dksX4_rows_18 16 rfl rfl)
theorem dX4_rows_438 : decode cX4_rows 438 = .ok (.invokevirtual 493, 3) := dk_182 1 237 (dk_at dksX4_rows_18 17 rfl rfl)
theorem dX4_rows_441 : decode cX4_rows 441 = .ok (.goto (-312), 3) := dk_167 254 200 (dk_at dksX4_rows_18 20 rfl rfl)
theorem dX4_rows_444 : decode cX4_rows 444 = .ok (.return_, 1) := dk_177 (dk_at dksX4_rows_18 23 rfl rfl)
abbrev cX4_isSmoked : ByteArray := prog_23_method_61_code
def yX4_isSmoked : MethodName := ⟨RX4, "isSmoked", "(II)Z"⟩
def dkwX4_isSmoked_3 : List UInt8 := [3, 62, 132, 4, 1, 167, 255, 185, 29, 172]
abbrev dktX4_isSmoked_3 : List UInt8 := dkwX4_isSmoked_3 ++ []
def dkwX4_isSmoked_2 : List UInt8 := [46, 42, 180, 0, 23, 28, 46, 42, 180, 1, 29, 100, 100, 184, 1, 13, 4, 163, 0, 7, 4, 167, 0, 4]
abbrev dktX4_isSmoked_2 : List UInt8 := dkwX4_isSmoked_2 ++ dktX4_isSmoked_3
def dkwX4_isSmoked_1 : List UInt8 := [21, 4, 46, 46, 42, 180, 0, 26, 28, 46, 162, 0, 38, 42, 180, 0, 23, 42, 180, 0, 117, 21, 4, 46]
abbrev dktX4_isSmoked_1 : List UInt8 := dkwX4_isSmoked_1 ++ dktX4_isSmoked_2
def dkwX4_isSmoked_0 : List UInt8 := [3, 62, 3, 54, 4, 21, 4, 27, 162, 0, 71, 29, 154, 0, 55, 42, 180, 0, 26, 42, 180, 0, 117]
abbrev dktX4_isSmoked_0 : List UInt8 := dkwX4_isSmoked_0 ++ dktX4_isSmoked_1
theorem dksX4_isSmoked_0 : cX4_isSmoked.data.toList.drop 0 = dktX4_isSmoked_0 := by decide +kernel
theorem dksX4_isSmoked_1 : cX4_isSmoked.data.toList.drop 23 = dktX4_isSmoked_1 := dk_seg dksX4_isSmoked_0 23 rfl rfl
theorem dksX4_isSmoked_2 : cX4_isSmoked.data.toList.drop 47 = dktX4_isSmoked_2 := dk_seg dksX4_isSmoked_1 24 rfl rfl
theorem dksX4_isSmoked_3 : cX4_isSmoked.data.toList.drop 71 = dktX4_isSmoked_3 := dk_seg dksX4_isSmoked_2 24 rfl rfl
theorem dX4_isSmoked_0 : decode cX4_isSmoked 0 = .ok (.iconst 0, 1) := dk_3 (dk_at dksX4_isSmoked_0 0 rfl rfl)
theorem dX4_isSmoked_1 : decode cX4_isSmoked 1 = .ok (.istore_n 3, 1) := dk_62 (dk_at dksX4_isSmoked_0 1 rfl rfl)
theorem dX4_isSmoked_2 : decode cX4_isSmoked 2 = .ok (.iconst 0, 1) := dk_3 (dk_at dksX4_isSmoked_0 2 rfl rfl)
theorem dX4_isSmoked_3 : decode cX4_isSmoked 3 = .ok (.istore 4, 2) := dk_54 4 (dk_at dksX4_isSmoked_0 3 rfl rfl)
theorem dX4_isSmoked_5 : decode cX4_isSmoked 5 = .ok (.iload 4, 2) := dk_21 4 (dk_at dksX4_isSmoked_0 5 rfl rfl)
theorem dX4_isSmoked_7 : decode cX4_isSmoked 7 = .ok (.iload_n 1, 1) := dk_27 (dk_at dksX4_isSmoked_0 7 rfl rfl)
theorem dX4_isSmoked_8 : decode cX4_isSmoked 8 = .ok (.if_icmp .ge 71, 3) := dk_162 0 71 (dk_at dksX4_isSmoked_0 8 rfl rfl)
theorem dX4_isSmoked_11 : decode cX4_isSmoked 11 = .ok (.iload_n 3, 1) := dk_29 (dk_at dksX4_isSmoked_0 11 rfl rfl)
theorem dX4_isSmoked_12 : decode cX4_isSmoked 12 = .ok (.ifCond .ne 55, 3) := dk_154 0 55 (dk_at dksX4_isSmoked_0 12 rfl rfl)
theorem dX4_isSmoked_15 : decode cX4_isSmoked 15 = .ok (.aload_n 0, 1) := dk_42 (dk_at dksX4_isSmoked_0 15 rfl rfl)
theorem dX4_isSmoked_16 : decode cX4_isSmoked 16 = .ok (.getfield 26, 3) := dk_180 0 26 (dk_at dksX4_isSmoked_0 16 rfl rfl)
theorem dX4_isSmoked_19 : decode cX4_isSmoked 19 = .ok (.aload_n 0, 1) := dk_42 (dk_at dksX4_isSmoked_0 19 rfl rfl)
theorem dX4_isSmoked_20 : decode cX4_isSmoked 20 = .ok (.getfield 117, 3) := dk_180 0 117 (dk_at dksX4_isSmoked_0 20 rfl rfl)
theorem dX4_isSmoked_23 : decode cX4_isSmoked 23 = .ok (.iload 4, 2) := dk_21 4 (dk_at dksX4_isSmoked_1 0 rfl rfl)
theorem dX4_isSmoked_25 : decode cX4_isSmoked 25 = .ok (.iaload, 1) := dk_46 (dk_at dksX4_isSmoked_1 2 rfl rfl)
theorem dX4_isSmoked_26 : decode cX4_isSmoked 26 = .ok (.iaload, 1) := dk_46 (dk_at dksX4_isSmoked_1 3 rfl rfl)
theorem dX4_isSmoked_27 : decode cX4_isSmoked 27 = .ok (.aload_n 0, 1) := dk_42 (dk_at dksX4_isSmoked_1 4 rfl rfl)
theorem dX4_isSmoked_28 : decode cX4_isSmoked 28 = .ok (.getfield 26, 3) := dk_180 0 26 (dk_at dksX4_isSmoked_1 5 rfl rfl)
theorem dX4_isSmoked_31 : decode cX4_isSmoked 31 = .ok (.iload_n 2, 1) := dk_28 (dk_at dksX4_isSmoked_1 8 rfl rfl)
theorem dX4_isSmoked_32 : decode cX4_isSmoked 32 = .ok (.iaload, 1) := dk_46 (dk_at dksX4_isSmoked_1 9 rfl rfl)
theorem dX4_isSmoked_33 : decode cX4_isSmoked 33 = .ok (.if_icmp .ge 38, 3) := dk_162 0 38 (dk_at dksX4_isSmoked_1 10 rfl rfl)
theorem dX4_isSmoked_36 : decode cX4_isSmoked 36 = .ok (.aload_n 0, 1) := dk_42 (dk_at dksX4_isSmoked_1 13 rfl rfl)
theorem dX4_isSmoked_37 : decode cX4_isSmoked 37 = .ok (.getfield 23, 3) := dk_180 0 23 (dk_at dksX4_isSmoked_1 14 rfl rfl)
theorem dX4_isSmoked_40 : decode cX4_isSmoked 40 = .ok (.aload_n 0, 1) := dk_42 (dk_at dksX4_isSmoked_1 17 rfl rfl)
theorem dX4_isSmoked_41 : decode cX4_isSmoked 41 = .ok (.getfield 117, 3) := dk_180 0 117 (dk_at dksX4_isSmoked_1 18 rfl rfl)
theorem dX4_isSmoked_44 : decode cX4_isSmoked 44 = .ok (.iload 4, 2) := dk_21 4 (dk_at dksX4_isSmoked_1 21 rfl rfl)
theorem dX4_isSmoked_46 : decode cX4_isSmoked 46 = .ok (.iaload, 1) := dk_46 (dk_at dksX4_isSmoked_1 23 rfl rfl)
theorem dX4_isSmoked_47 : decode cX4_isSmoked 47 = .ok (.iaload, 1) := dk_46 (dk_at dksX4_isSmoked_2 0 rfl rfl)
theorem dX4_isSmoked_48 : decode cX4_isSmoked 48 = .ok (.aload_n 0, 1) := dk_42 (dk_at dksX4_isSmoked_2 1 rfl rfl)
theorem dX4_isSmoked_49 : decode cX4_isSmoked 49 = .ok (.getfield 23, 3) := dk_180 0 23 (dk_at dksX4_isSmoked_2 2 rfl rfl)
theorem dX4_isSmoked_52 : decode cX4_isSmoked 52 = .ok (.iload_n 2, 1) := dk_28 (dk_at dksX4_isSmoked_2 5 rfl rfl)
theorem dX4_isSmoked_53 : decode cX4_isSmoked 53 = .ok (.iaload, 1) := dk_46 (dk_at dksX4_isSmoked_2 6 rfl rfl)
theorem dX4_isSmoked_54 : decode cX4_isSmoked 54 = .ok (.aload_n 0, 1) := dk_42 (dk_at dksX4_isSmoked_2 7 rfl rfl)
theorem dX4_isSmoked_55 : decode cX4_isSmoked 55 = .ok (.getfield 285, 3) := dk_180 1 29 (dk_at dksX4_isSmoked_2 8 rfl rfl)
theorem dX4_isSmoked_58 : decode cX4_isSmoked 58 = .ok (.isub, 1) := dk_100 (dk_at dksX4_isSmoked_2 11 rfl rfl)
theorem dX4_isSmoked_59 : decode cX4_isSmoked 59 = .ok (.isub, 1) := dk_100 (dk_at dksX4_isSmoked_2 12 rfl rfl)
theorem dX4_isSmoked_60 : decode cX4_isSmoked 60 = .ok (.invokestatic 269, 3) := dk_184 1 13 (dk_at dksX4_isSmoked_2 13 rfl rfl)
theorem dX4_isSmoked_63 : decode cX4_isSmoked 63 = .ok (.iconst 1, 1) := dk_4 (dk_at dksX4_isSmoked_2 16 rfl rfl)
theorem dX4_isSmoked_64 : decode cX4_isSmoked 64 = .ok (.if_icmp .gt 7, 3) := dk_163 0 7 (dk_at dksX4_isSmoked_2 17 rfl rfl)
theorem dX4_isSmoked_67 : decode cX4_isSmoked 67 = .ok (.iconst 1, 1) := dk_4 (dk_at dksX4_isSmoked_2 20 rfl rfl)
theorem dX4_isSmoked_68 : decode cX4_isSmoked 68 = .ok (.goto 4, 3) := dk_167 0 4 (dk_at dksX4_isSmoked_2 21 rfl rfl)
theorem dX4_isSmoked_71 : decode cX4_isSmoked 71 = .ok (.iconst 0, 1) := dk_3 (dk_at dksX4_isSmoked_3 0 rfl rfl)
theorem dX4_isSmoked_72 : decode cX4_isSmoked 72 = .ok (.istore_n 3, 1) := dk_62 (dk_at dksX4_isSmoked_3 1 rfl rfl)
theorem dX4_isSmoked_73 : decode cX4_isSmoked 73 = .ok (.iinc 4 1, 3) := dk_132 4 1 (dk_at dksX4_isSmoked_3 2 rfl rfl)
theorem dX4_isSmoked_76 : decode cX4_isSmoked 76 = .ok (.goto (-71), 3) := dk_167 255 185 (dk_at dksX4_isSmoked_3 5 rfl rfl)
theorem dX4_isSmoked_79 : decode cX4_isSmoked 79 = .ok (.iload_n 3, 1) := dk_29 (dk_at dksX4_isSmoked_3 8 rfl rfl)
theorem dX4_isSmoked_80 : decode cX4_isSmoked 80 = .ok (.ireturn, 1) := dk_172 (dk_at dksX4_isSmoked_3 9 rfl rfl)
abbrev cX4_takesRow : ByteArray := prog_23_method_63_code
def yX4_takesRow : MethodName := ⟨RX4, "takesRow", "(II)V"⟩
def dkwX4_takesRow_4 : List UInt8 := [132, 3, 1, 167, 255, 236, 177]
abbrev dktX4_takesRow_4 : List UInt8 := dkwX4_takesRow_4 ++ []
def dkwX4_takesRow_3 : List UInt8 := [46, 181, 1, 231, 3, 62, 29, 27, 162, 0, 21, 42, 180, 0, 132, 29, 42, 180, 0, 117, 29, 46, 79]
abbrev dktX4_takesRow_3 : List UInt8 := dkwX4_takesRow_3 ++ dktX4_takesRow_4
def dkwX4_takesRow_2 : List UInt8 := [181, 1, 222, 42, 42, 180, 0, 123, 27, 46, 181, 1, 225, 42, 28, 181, 1, 228, 42, 42, 180, 0, 129, 27]
abbrev dktX4_takesRow_2 : List UInt8 := dkwX4_takesRow_2 ++ dktX4_takesRow_3
def dkwX4_takesRow_1 : List UInt8 := [180, 0, 123, 27, 46, 42, 180, 1, 225, 160, 0, 12, 28, 42, 180, 1, 228, 161, 0, 4, 177, 42, 27]
abbrev dktX4_takesRow_1 : List UInt8 := dkwX4_takesRow_1 ++ dktX4_takesRow_2
def dkwX4_takesRow_0 : List UInt8 := [28, 42, 180, 0, 7, 163, 0, 37, 42, 180, 0, 123, 27, 46, 42, 180, 1, 225, 161, 0, 24, 42]
abbrev dktX4_takesRow_0 : List UInt8 := dkwX4_takesRow_0 ++ dktX4_takesRow_1
theorem dksX4_takesRow_0 : cX4_takesRow.data.toList.drop 0 = dktX4_takesRow_0 := by decide +kernel
theorem dksX4_takesRow_1 : cX4_takesRow.data.toList.drop 22 = dktX4_takesRow_1 := dk_seg dksX4_takesRow_0 22 rfl rfl
theorem dksX4_takesRow_2 : cX4_takesRow.data.toList.drop 45 = dktX4_takesRow_2 := dk_seg dksX4_takesRow_1 23 rfl rfl
theorem dksX4_takesRow_3 : cX4_takesRow.data.toList.drop 69 = dktX4_takesRow_3 := dk_seg dksX4_takesRow_2 24 rfl rfl
theorem dksX4_takesRow_4 : cX4_takesRow.data.toList.drop 92 = dktX4_takesRow_4 := dk_seg dksX4_takesRow_3 23 rfl rfl
theorem dX4_takesRow_0 : decode cX4_takesRow 0 = .ok (.iload_n 2, 1) := dk_28 (dk_at dksX4_takesRow_0 0 rfl rfl)
theorem dX4_takesRow_1 : decode cX4_takesRow 1 = .ok (.aload_n 0, 1) := dk_42 (dk_at dksX4_takesRow_0 1 rfl rfl)
theorem dX4_takesRow_2 : decode cX4_takesRow 2 = .ok (.getfield 7, 3) := dk_180 0 7 (dk_at dksX4_takesRow_0 2 rfl rfl)
theorem dX4_takesRow_5 : decode cX4_takesRow 5 = .ok (.if_icmp .gt 37, 3) := dk_163 0 37 (dk_at dksX4_takesRow_0 5 rfl rfl)
theorem dX4_takesRow_8 : decode cX4_takesRow 8 = .ok (.aload_n 0, 1) := dk_42 (dk_at dksX4_takesRow_0 8 rfl rfl)
theorem dX4_takesRow_9 : decode cX4_takesRow 9 = .ok (.getfield 123, 3) := dk_180 0 123 (dk_at dksX4_takesRow_0 9 rfl rfl)
theorem dX4_takesRow_12 : decode cX4_takesRow 12 = .ok (.iload_n 1, 1) := dk_27 (dk_at dksX4_takesRow_0 12 rfl rfl)
theorem dX4_takesRow_13 : decode cX4_takesRow 13 = .ok (.iaload, 1) := dk_46 (dk_at dksX4_takesRow_0 13 rfl rfl)
theorem dX4_takesRow_14 : decode cX4_takesRow 14 = .ok (.aload_n 0, 1) := dk_42 (dk_at dksX4_takesRow_0 14 rfl rfl)
theorem dX4_takesRow_15 : decode cX4_takesRow 15 = .ok (.getfield 481, 3) := dk_180 1 225 (dk_at dksX4_takesRow_0 15 rfl rfl)
theorem dX4_takesRow_18 : decode cX4_takesRow 18 = .ok (.if_icmp .lt 24, 3) := dk_161 0 24 (dk_at dksX4_takesRow_0 18 rfl rfl)
theorem dX4_takesRow_21 : decode cX4_takesRow 21 = .ok (.aload_n 0, 1) := dk_42 (dk_at dksX4_takesRow_0 21 rfl rfl)
theorem dX4_takesRow_22 : decode cX4_takesRow 22 = .ok (.getfield 123, 3) := dk_180 0 123 (dk_at dksX4_takesRow_1 0 rfl rfl)
theorem dX4_takesRow_25 : decode cX4_takesRow 25 = .ok (.iload_n 1, 1) := dk_27 (dk_at dksX4_takesRow_1 3 rfl rfl)
theorem dX4_takesRow_26 : decode cX4_takesRow 26 = .ok (.iaload, 1) := dk_46 (dk_at dksX4_takesRow_1 4 rfl rfl)
theorem dX4_takesRow_27 : decode cX4_takesRow 27 = .ok (.aload_n 0, 1) := dk_42 (dk_at dksX4_takesRow_1 5 rfl rfl)
theorem dX4_takesRow_28 : decode cX4_takesRow 28 = .ok (.getfield 481, 3) := dk_180 1 225 (dk_at dksX4_takesRow_1 6 rfl rfl)
theorem dX4_takesRow_31 : decode cX4_takesRow 31 = .ok (.if_icmp .ne 12, 3) := dk_160 0 12 (dk_at dksX4_takesRow_1 9 rfl rfl)
theorem dX4_takesRow_34 : decode cX4_takesRow 34 = .ok (.iload_n 2, 1) := dk_28 (dk_at dksX4_takesRow_1 12 rfl rfl)
theorem dX4_takesRow_35 : decode cX4_takesRow 35 = .ok (.aload_n 0, 1) := dk_42 (dk_at dksX4_takesRow_1 13 rfl rfl)
theorem dX4_takesRow_36 : decode cX4_takesRow 36 = .ok (.getfield 484, 3) := dk_180 1 228 (dk_at dksX4_takesRow_1 14 rfl rfl)
theorem dX4_takesRow_39 : decode cX4_takesRow 39 = .ok (.if_icmp .lt 4, 3) := dk_161 0 4 (dk_at dksX4_takesRow_1 17 rfl rfl)
theorem dX4_takesRow_42 : decode cX4_takesRow 42 = .ok (.return_, 1) := dk_177 (dk_at dksX4_takesRow_1 20 rfl rfl)
theorem dX4_takesRow_43 : decode cX4_takesRow 43 = .ok (.aload_n 0, 1) := dk_42 (dk_at dksX4_takesRow_1 21 rfl rfl)
theorem dX4_takesRow_44 : decode cX4_takesRow 44 = .ok (.iload_n 1, 1) := dk_27 (dk_at dksX4_takesRow_1 22 rfl rfl)
theorem dX4_takesRow_45 : decode cX4_takesRow 45 = .ok (.putfield 478, 3) := dk_181 1 222 (dk_at dksX4_takesRow_2 0 rfl rfl)
theorem dX4_takesRow_48 : decode cX4_takesRow 48 = .ok (.aload_n 0, 1) := dk_42 (dk_at dksX4_takesRow_2 3 rfl rfl)
theorem dX4_takesRow_49 : decode cX4_takesRow 49 = .ok (.aload_n 0, 1) := dk_42 (dk_at dksX4_takesRow_2 4 rfl rfl)
theorem dX4_takesRow_50 : decode cX4_takesRow 50 = .ok (.getfield 123, 3) := dk_180 0 123 (dk_at dksX4_takesRow_2 5 rfl rfl)
theorem dX4_takesRow_53 : decode cX4_takesRow 53 = .ok (.iload_n 1, 1) := dk_27 (dk_at dksX4_takesRow_2 8 rfl rfl)
theorem dX4_takesRow_54 : decode cX4_takesRow 54 = .ok (.iaload, 1) := dk_46 (dk_at dksX4_takesRow_2 9 rfl rfl)
theorem dX4_takesRow_55 : decode cX4_takesRow 55 = .ok (.putfield 481, 3) := dk_181 1 225 (dk_at dksX4_takesRow_2 10 rfl rfl)
theorem dX4_takesRow_58 : decode cX4_takesRow 58 = .ok (.aload_n 0, 1) := dk_42 (dk_at dksX4_takesRow_2 13 rfl rfl)
theorem dX4_takesRow_59 : decode cX4_takesRow 59 = .ok (.iload_n 2, 1) := dk_28 (dk_at dksX4_takesRow_2 14 rfl rfl)
theorem dX4_takesRow_60 : decode cX4_takesRow 60 = .ok (.putfield 484, 3) := dk_181 1 228 (dk_at dksX4_takesRow_2 15 rfl rfl)
theorem dX4_takesRow_63 : decode cX4_takesRow 63 = .ok (.aload_n 0, 1) := dk_42 (dk_at dksX4_takesRow_2 18 rfl rfl)
theorem dX4_takesRow_64 : decode cX4_takesRow 64 = .ok (.aload_n 0, 1) := dk_42 (dk_at dksX4_takesRow_2 19 rfl rfl)
theorem dX4_takesRow_65 : decode cX4_takesRow 65 = .ok (.getfield 129, 3) := dk_180 0 129 (dk_at dksX4_takesRow_2 20 rfl rfl)
theorem dX4_takesRow_68 : decode cX4_takesRow 68 = .ok (.iload_n 1, 1) := dk_27 (dk_at dksX4_takesRow_2 23 rfl rfl)
theorem dX4_takesRow_69 : decode cX4_takesRow 69 = .ok (.iaload, 1) := dk_46 (dk_at dksX4_takesRow_3 0 rfl rfl)
theorem dX4_takesRow_70 : decode cX4_takesRow 70 = .ok (.putfield 487, 3) := dk_181 1 231 (dk_at dksX4_takesRow_3 1 rfl rfl)
theorem dX4_takesRow_73 : decode cX4_takesRow 73 = .ok (.iconst 0, 1) := dk_3 (dk_at dksX4_takesRow_3 4 rfl rfl)
theorem dX4_takesRow_74 : decode cX4_takesRow 74 = .ok (.istore_n 3, 1) := dk_62 (dk_at dksX4_takesRow_3 5 rfl rfl)
theorem dX4_takesRow_75 : decode cX4_takesRow 75 = .ok (.iload_n 3, 1) := dk_29 (dk_at dksX4_takesRow_3 6 rfl rfl)
theorem dX4_takesRow_76 : decode cX4_takesRow 76 = .ok (.iload_n 1, 1) := dk_27 (dk_at dksX4_takesRow_3 7 rfl rfl)
theorem dX4_takesRow_77 : decode cX4_takesRow 77 = .ok (.if_icmp .ge 21, 3) := dk_162 0 21 (dk_at dksX4_takesRow_3 8 rfl rfl)
theorem dX4_takesRow_80 : decode cX4_takesRow 80 = .ok (.aload_n 0, 1) := dk_42 (dk_at dksX4_takesRow_3 11 rfl rfl)
theorem dX4_takesRow_81 : decode cX4_takesRow 81 = .ok (.getfield 132, 3) := dk_180 0 132 (dk_at dksX4_takesRow_3 12 rfl rfl)
theorem dX4_takesRow_84 : decode cX4_takesRow 84 = .ok (.iload_n 3, 1) := dk_29 (dk_at dksX4_takesRow_3 15 rfl rfl)
theorem dX4_takesRow_85 : decode cX4_takesRow 85 = .ok (.aload_n 0, 1) := dk_42 (dk_at dksX4_takesRow_3 16 rfl rfl)
theorem dX4_takesRow_86 : decode cX4_takesRow 86 = .ok (.getfield 117, 3) := dk_180 0 117 (dk_at dksX4_takesRow_3 17 rfl rfl)
theorem dX4_takesRow_89 : decode cX4_takesRow 89 = .ok (.iload_n 3, 1) := dk_29 (dk_at dksX4_takesRow_3 20 rfl rfl)
theorem dX4_takesRow_90 : decode cX4_takesRow 90 = .ok (.iaload, 1) := dk_46 (dk_at dksX4_takesRow_3 21 rfl rfl)
theorem dX4_takesRow_91 : decode cX4_takesRow 91 = .ok (.iastore, 1) := dk_79 (dk_at dksX4_takesRow_3 22 rfl rfl)
theorem dX4_takesRow_92 : decode cX4_takesRow 92 = .ok (.iinc 3 1, 3) := dk_132 3 1 (dk_at dksX4_takesRow_4 0 rfl rfl)
theorem dX4_takesRow_95 : decode cX4_takesRow 95 = .ok (.goto (-20), 3) := dk_167 255 236 (dk_at dksX4_takesRow_4 3 rfl rfl)
theorem dX4_takesRow_98 : decode cX4_takesRow 98 = .ok (.return_, 1) := dk_177 (dk_at dksX4_takesRow_4 6 rfl rfl)
abbrev cX4_person : ByteArray := prog_23_method_67_code
def yX4_person : MethodName := ⟨RX4, "person", "(I)I"⟩
def dkwX4_person_3 : List UInt8 := [180, 1, 244, 4, 96, 181, 1, 244, 42, 180, 1, 244, 4, 100, 172]
abbrev dktX4_person_3 : List UInt8 := dkwX4_person_3 ++ []
def dkwX4_person_2 : List UInt8 := [180, 1, 244, 4, 84, 42, 180, 0, 135, 2, 160, 0, 11, 42, 42, 180, 1, 244, 181, 0, 135, 42, 89]
abbrev dktX4_person_2 : List UInt8 := dkwX4_person_2 ++ dktX4_person_3
def dkwX4_person_1 : List UInt8 := [180, 0, 138, 42, 180, 1, 244, 27, 79, 42, 180, 0, 141, 42, 180, 1, 244, 2, 79, 42, 180, 0, 150, 42]
abbrev dktX4_person_1 : List UInt8 := dkwX4_person_1 ++ dktX4_person_2
def dkwX4_person_0 : List UInt8 := [27, 16, 30, 16, 120, 184, 0, 244, 153, 0, 12, 42, 180, 1, 244, 16, 16, 160, 0, 5, 2, 172, 42]
abbrev dktX4_person_0 : List UInt8 := dkwX4_person_0 ++ dktX4_person_1
theorem dksX4_person_0 : cX4_person.data.toList.drop 0 = dktX4_person_0 := by decide +kernel
theorem dksX4_person_1 : cX4_person.data.toList.drop 23 = dktX4_person_1 := dk_seg dksX4_person_0 23 rfl rfl
theorem dksX4_person_2 : cX4_person.data.toList.drop 47 = dktX4_person_2 := dk_seg dksX4_person_1 24 rfl rfl
theorem dksX4_person_3 : cX4_person.data.toList.drop 70 = dktX4_person_3 := dk_seg dksX4_person_2 23 rfl rfl
theorem dX4_person_0 : decode cX4_person 0 = .ok (.iload_n 1, 1) := dk_27 (dk_at dksX4_person_0 0 rfl rfl)
theorem dX4_person_1 : decode cX4_person 1 = .ok (.bipush 30, 2) := dk_16 30 (dk_at dksX4_person_0 1 rfl rfl)
theorem dX4_person_3 : decode cX4_person 3 = .ok (.bipush 120, 2) := dk_16 120 (dk_at dksX4_person_0 3 rfl rfl)
theorem dX4_person_5 : decode cX4_person 5 = .ok (.invokestatic 244, 3) := dk_184 0 244 (dk_at dksX4_person_0 5 rfl rfl)
theorem dX4_person_8 : decode cX4_person 8 = .ok (.ifCond .eq 12, 3) := dk_153 0 12 (dk_at dksX4_person_0 8 rfl rfl)
theorem dX4_person_11 : decode cX4_person 11 = .ok (.aload_n 0, 1) := dk_42 (dk_at dksX4_person_0 11 rfl rfl)
theorem dX4_person_12 : decode cX4_person 12 = .ok (.getfield 500, 3) := dk_180 1 244 (dk_at dksX4_person_0 12 rfl rfl)
theorem dX4_person_15 : decode cX4_person 15 = .ok (.bipush 16, 2) := dk_16 16 (dk_at dksX4_person_0 15 rfl rfl)
theorem dX4_person_17 : decode cX4_person 17 = .ok (.if_icmp .ne 5, 3) := dk_160 0 5 (dk_at dksX4_person_0 17 rfl rfl)
theorem dX4_person_20 : decode cX4_person 20 = .ok (.iconst (-1), 1) := dk_2 (dk_at dksX4_person_0 20 rfl rfl)
theorem dX4_person_21 : decode cX4_person 21 = .ok (.ireturn, 1) := dk_172 (dk_at dksX4_person_0 21 rfl rfl)
theorem dX4_person_22 : decode cX4_person 22 = .ok (.aload_n 0, 1) := dk_42 (dk_at dksX4_person_0 22 rfl rfl)
theorem dX4_person_23 : decode cX4_person 23 = .ok (.getfield 138, 3) := dk_180 0 138 (dk_at dksX4_person_1 0 rfl rfl)
theorem dX4_person_26 : decode cX4_person 26 = .ok (.aload_n 0, 1) := dk_42 (dk_at dksX4_person_1 3 rfl rfl)
theorem dX4_person_27 : decode cX4_person 27 = .ok (.getfield 500, 3) := dk_180 1 244 (dk_at dksX4_person_1 4 rfl rfl)
theorem dX4_person_30 : decode cX4_person 30 = .ok (.iload_n 1, 1) := dk_27 (dk_at dksX4_person_1 7 rfl rfl)
theorem dX4_person_31 : decode cX4_person 31 = .ok (.iastore, 1) := dk_79 (dk_at dksX4_person_1 8 rfl rfl)
theorem dX4_person_32 : decode cX4_person 32 = .ok (.aload_n 0, 1) := dk_42 (dk_at dksX4_person_1 9 rfl rfl)
theorem dX4_person_33 : decode cX4_person 33 = .ok (.getfield 141, 3) := dk_180 0 141 (dk_at dksX4_person_1 10 rfl rfl)
theorem dX4_person_36 : decode cX4_person 36 = .ok (.aload_n 0, 1) := dk_42 (dk_at dksX4_person_1 13 rfl rfl)
theorem dX4_person_37 : decode cX4_person 37 = .ok (.getfield 500, 3) := dk_180 1 244 (dk_at dksX4_person_1 14 rfl rfl)
theorem dX4_person_40 : decode cX4_person 40 = .ok (.iconst (-1), 1) := dk_2 (dk_at dksX4_person_1 17 rfl rfl)
theorem dX4_person_41 : decode cX4_person 41 = .ok (.iastore, 1) := dk_79 (dk_at dksX4_person_1 18 rfl rfl)
theorem dX4_person_42 : decode cX4_person 42 = .ok (.aload_n 0, 1) := dk_42 (dk_at dksX4_person_1 19 rfl rfl)
theorem dX4_person_43 : decode cX4_person 43 = .ok (.getfield 150, 3) := dk_180 0 150 (dk_at dksX4_person_1 20 rfl rfl)
theorem dX4_person_46 : decode cX4_person 46 = .ok (.aload_n 0, 1) := dk_42 (dk_at dksX4_person_1 23 rfl rfl)
theorem dX4_person_47 : decode cX4_person 47 = .ok (.getfield 500, 3) := dk_180 1 244 (dk_at dksX4_person_2 0 rfl rfl)
theorem dX4_person_50 : decode cX4_person 50 = .ok (.iconst 1, 1) := dk_4 (dk_at dksX4_person_2 3 rfl rfl)
theorem dX4_person_51 : decode cX4_person 51 = .ok (.bastore, 1) := dk_84 (dk_at dksX4_person_2 4 rfl rfl)
theorem dX4_person_52 : decode cX4_person 52 = .ok (.aload_n 0, 1) := dk_42 (dk_at dksX4_person_2 5 rfl rfl)
theorem dX4_person_53 : decode cX4_person 53 = .ok (.getfield 135, 3) := dk_180 0 135 (dk_at dksX4_person_2 6 rfl rfl)
theorem dX4_person_56 : decode cX4_person 56 = .ok (.iconst (-1), 1) := dk_2 (dk_at dksX4_person_2 9 rfl rfl)
theorem dX4_person_57 : decode cX4_person 57 = .ok (.if_icmp .ne 11, 3) := dk_160 0 11 (dk_at dksX4_person_2 10 rfl rfl)
theorem dX4_person_60 : decode cX4_person 60 = .ok (.aload_n 0, 1) := dk_42 (dk_at dksX4_person_2 13 rfl rfl)
theorem dX4_person_61 : decode cX4_person 61 = .ok (.aload_n 0, 1) := dk_42 (dk_at dksX4_person_2 14 rfl rfl)
theorem dX4_person_62 : decode cX4_person 62 = .ok (.getfield 500, 3) := dk_180 1 244 (dk_at dksX4_person_2 15 rfl rfl)
theorem dX4_person_65 : decode cX4_person 65 = .ok (.putfield 135, 3) := dk_181 0 135 (dk_at dksX4_person_2 18 rfl rfl)
theorem dX4_person_68 : decode cX4_person 68 = .ok (.aload_n 0, 1) := dk_42 (dk_at dksX4_person_2 21 rfl rfl)
theorem dX4_person_69 : decode cX4_person 69 = .ok (.dup, 1) := dk_89 (dk_at dksX4_person_2 22 rfl rfl)
theorem dX4_person_70 : decode cX4_person 70 = .ok (.getfield 500, 3) := dk_180 1 244 (dk_at dksX4_person_3 0 rfl rfl)
theorem dX4_person_73 : decode cX4_person 73 = .ok (.iconst 1, 1) := dk_4 (dk_at dksX4_person_3 3 rfl rfl)
theorem dX4_person_74 : decode cX4_person 74 = .ok (.iadd, 1) := dk_96 (dk_at dksX4_person_3 4 rfl rfl)
theorem dX4_person_75 : decode cX4_person 75 = .ok (.putfield 500, 3) := dk_181 1 244 (dk_at dksX4_person_3 5 rfl rfl)
theorem dX4_person_78 : decode cX4_person 78 = .ok (.aload_n 0, 1) := dk_42 (dk_at dksX4_person_3 8 rfl rfl)
theorem dX4_person_79 : decode cX4_person 79 = .ok (.getfield 500, 3) := dk_180 1 244 (dk_at dksX4_person_3 9 rfl rfl)
theorem dX4_person_82 : decode cX4_person 82 = .ok (.iconst 1, 1) := dk_4 (dk_at dksX4_person_3 12 rfl rfl)
theorem dX4_person_83 : decode cX4_person 83 = .ok (.isub, 1) := dk_100 (dk_at dksX4_person_3 13 rfl rfl)
theorem dX4_person_84 : decode cX4_person 84 = .ok (.ireturn, 1) := dk_172 (dk_at dksX4_person_3 14 rfl rfl)
abbrev cX4_heir : ByteArray := prog_23_method_68_code
def yX4_heir : MethodName := ⟨RX4, "heir", "(II)Z"⟩
def dkwX4_heir_1 : List UInt8 := [160, 0, 5, 3, 172, 42, 180, 0, 141, 27, 28, 79, 4, 172]
abbrev dktX4_heir_1 : List UInt8 := dkwX4_heir_1 ++ []
def dkwX4_heir_0 : List UInt8 := [42, 27, 182, 0, 251, 153, 0, 21, 28, 2, 159, 0, 11, 42, 28, 182, 0, 251, 153, 0, 8, 27, 28]
abbrev dktX4_heir_0 : List UInt8 := dkwX4_heir_0 ++ dktX4_heir_1
theorem dksX4_heir_0 : cX4_heir.data.toList.drop 0 = dktX4_heir_0 := by decide +kernel
theorem dksX4_heir_1 : cX4_heir.data.toList.drop 23 = dktX4_heir_1 := dk_seg dksX4_heir_0 23 rfl rfl
theorem dX4_heir_0 : decode cX4_heir 0 = .ok (.aload_n 0, 1) := dk_42 (dk_at dksX4_heir_0 0 rfl rfl)
theorem dX4_heir_1 : decode cX4_heir 1 = .ok (.iload_n 1, 1) := dk_27 (dk_at dksX4_heir_0 1 rfl rfl)
theorem dX4_heir_2 : decode cX4_heir 2 = .ok (.invokevirtual 251, 3) := dk_182 0 251 (dk_at dksX4_heir_0 2 rfl rfl)
theorem dX4_heir_5 : decode cX4_heir 5 = .ok (.ifCond .eq 21, 3) := dk_153 0 21 (dk_at dksX4_heir_0 5 rfl rfl)
theorem dX4_heir_8 : decode cX4_heir 8 = .ok (.iload_n 2, 1) := dk_28 (dk_at dksX4_heir_0 8 rfl rfl)
theorem dX4_heir_9 : decode cX4_heir 9 = .ok (.iconst (-1), 1) := dk_2 (dk_at dksX4_heir_0 9 rfl rfl)
theorem dX4_heir_10 : decode cX4_heir 10 = .ok (.if_icmp .eq 11, 3) := dk_159 0 11 (dk_at dksX4_heir_0 10 rfl rfl)
theorem dX4_heir_13 : decode cX4_heir 13 = .ok (.aload_n 0, 1) := dk_42 (dk_at dksX4_heir_0 13 rfl rfl)
theorem dX4_heir_14 : decode cX4_heir 14 = .ok (.iload_n 2, 1) := dk_28 (dk_at dksX4_heir_0 14 rfl rfl)
theorem dX4_heir_15 : decode cX4_heir 15 = .ok (.invokevirtual 251, 3) := dk_182 0 251 (dk_at dksX4_heir_0 15 rfl rfl)
theorem dX4_heir_18 : decode cX4_heir 18 = .ok (.ifCond .eq 8, 3) := dk_153 0 8 (dk_at dksX4_heir_0 18 rfl rfl)
theorem dX4_heir_21 : decode cX4_heir 21 = .ok (.iload_n 1, 1) := dk_27 (dk_at dksX4_heir_0 21 rfl rfl)
theorem dX4_heir_22 : decode cX4_heir 22 = .ok (.iload_n 2, 1) := dk_28 (dk_at dksX4_heir_0 22 rfl rfl)
theorem dX4_heir_23 : decode cX4_heir 23 = .ok (.if_icmp .ne 5, 3) := dk_160 0 5 (dk_at dksX4_heir_1 0 rfl rfl)
theorem dX4_heir_26 : decode cX4_heir 26 = .ok (.iconst 0, 1) := dk_3 (dk_at dksX4_heir_1 3 rfl rfl)
theorem dX4_heir_27 : decode cX4_heir 27 = .ok (.ireturn, 1) := dk_172 (dk_at dksX4_heir_1 4 rfl rfl)
theorem dX4_heir_28 : decode cX4_heir 28 = .ok (.aload_n 0, 1) := dk_42 (dk_at dksX4_heir_1 5 rfl rfl)
theorem dX4_heir_29 : decode cX4_heir 29 = .ok (.getfield 141, 3) := dk_180 0 141 (dk_at dksX4_heir_1 6 rfl rfl)
theorem dX4_heir_32 : decode cX4_heir 32 = .ok (.iload_n 1, 1) := dk_27 (dk_at dksX4_heir_1 9 rfl rfl)
theorem dX4_heir_33 : decode cX4_heir 33 = .ok (.iload_n 2, 1) := dk_28 (dk_at dksX4_heir_1 10 rfl rfl)
theorem dX4_heir_34 : decode cX4_heir 34 = .ok (.iastore, 1) := dk_79 (dk_at dksX4_heir_1 11 rfl rfl)
theorem dX4_heir_35 : decode cX4_heir 35 = .ok (.iconst 1, 1) := dk_4 (dk_at dksX4_heir_1 12 rfl rfl)
theorem dX4_heir_36 : decode cX4_heir 36 = .ok (.ireturn, 1) := dk_172 (dk_at dksX4_heir_1 13 rfl rfl)
abbrev cX4_dies : ByteArray := prog_23_method_69_code
def yX4_dies : MethodName := ⟨RX4, "dies", "(I)Z"⟩
def dkwX4_dies_5 : List UInt8 := [42, 29, 42, 180, 1, 244, 160, 0, 7, 2, 167, 0, 4, 29, 181, 0, 135, 4, 172]
abbrev dktX4_dies_5 : List UInt8 := dkwX4_dies_5 ++ []
def dkwX4_dies_4 : List UInt8 := [62, 29, 42, 180, 1, 244, 162, 0, 18, 42, 180, 0, 150, 29, 51, 154, 0, 9, 132, 3, 1, 167, 255, 236]
abbrev dktX4_dies_4 : List UInt8 := dkwX4_dies_4 ++ dktX4_dies_5
def dkwX4_dies_3 : List UInt8 := [180, 0, 141, 29, 46, 62, 167, 255, 221, 29, 2, 159, 0, 12, 42, 180, 0, 150, 29, 51, 154, 0, 28, 3]
abbrev dktX4_dies_3 : List UInt8 := dkwX4_dies_3 ++ dktX4_dies_4
def dkwX4_dies_2 : List UInt8 := [180, 0, 150, 29, 51, 154, 0, 27, 28, 29, 122, 4, 126, 154, 0, 19, 28, 4, 29, 120, 128, 61, 42]
abbrev dktX4_dies_2 : List UInt8 := dkwX4_dies_2 ++ dktX4_dies_3
def dkwX4_dies_1 : List UInt8 := [159, 0, 5, 4, 172, 4, 27, 120, 61, 42, 180, 0, 141, 27, 46, 62, 29, 2, 159, 0, 36, 42]
abbrev dktX4_dies_1 : List UInt8 := dkwX4_dies_1 ++ dktX4_dies_2
def dkwX4_dies_0 : List UInt8 := [42, 27, 182, 1, 247, 154, 0, 5, 3, 172, 42, 180, 0, 150, 27, 3, 84, 42, 180, 0, 135, 27]
abbrev dktX4_dies_0 : List UInt8 := dkwX4_dies_0 ++ dktX4_dies_1
theorem dksX4_dies_0 : cX4_dies.data.toList.drop 0 = dktX4_dies_0 := by decide +kernel
theorem dksX4_dies_1 : cX4_dies.data.toList.drop 22 = dktX4_dies_1 := dk_seg dksX4_dies_0 22 rfl rfl
theorem dksX4_dies_2 : cX4_dies.data.toList.drop 44 = dktX4_dies_2 := dk_seg dksX4_dies_1 22 rfl rfl
theorem dksX4_dies_3 : cX4_dies.data.toList.drop 67 = dktX4_dies_3 := dk_seg dksX4_dies_2 23 rfl rfl
theorem dksX4_dies_4 : cX4_dies.data.toList.drop 91 = dktX4_dies_4 := dk_seg dksX4_dies_3 24 rfl rfl
theorem dksX4_dies_5 : cX4_dies.data.toList.drop 115 = dktX4_dies_5 := dk_seg dksX4_dies_4 24 rfl rfl
theorem dX4_dies_0 : decode cX4_dies 0 = .ok (.aload_n 0, 1) := dk_42 (dk_at dksX4_dies_0 0 rfl rfl)
theorem dX4_dies_1 : decode cX4_dies 1 = .ok (.iload_n 1, 1) := dk_27 (dk_at dksX4_dies_0 1 rfl rfl)
theorem dX4_dies_2 : decode cX4_dies 2 = .ok (.invokevirtual 503, 3) := dk_182 1 247 (dk_at dksX4_dies_0 2 rfl rfl)
theorem dX4_dies_5 : decode cX4_dies 5 = .ok (.ifCond .ne 5, 3) := dk_154 0 5 (dk_at dksX4_dies_0 5 rfl rfl)
theorem dX4_dies_8 : decode cX4_dies 8 = .ok (.iconst 0, 1) := dk_3 (dk_at dksX4_dies_0 8 rfl rfl)
theorem dX4_dies_9 : decode cX4_dies 9 = .ok (.ireturn, 1) := dk_172 (dk_at dksX4_dies_0 9 rfl rfl)
theorem dX4_dies_10 : decode cX4_dies 10 = .ok (.aload_n 0, 1) := dk_42 (dk_at dksX4_dies_0 10 rfl rfl)
theorem dX4_dies_11 : decode cX4_dies 11 = .ok (.getfield 150, 3) := dk_180 0 150 (dk_at dksX4_dies_0 11 rfl rfl)
theorem dX4_dies_14 : decode cX4_dies 14 = .ok (.iload_n 1, 1) := dk_27 (dk_at dksX4_dies_0 14 rfl rfl)
theorem dX4_dies_15 : decode cX4_dies 15 = .ok (.iconst 0, 1) := dk_3 (dk_at dksX4_dies_0 15 rfl rfl)
theorem dX4_dies_16 : decode cX4_dies 16 = .ok (.bastore, 1) := dk_84 (dk_at dksX4_dies_0 16 rfl rfl)
theorem dX4_dies_17 : decode cX4_dies 17 = .ok (.aload_n 0, 1) := dk_42 (dk_at dksX4_dies_0 17 rfl rfl)
theorem dX4_dies_18 : decode cX4_dies 18 = .ok (.getfield 135, 3) := dk_180 0 135 (dk_at dksX4_dies_0 18 rfl rfl)
theorem dX4_dies_21 : decode cX4_dies 21 = .ok (.iload_n 1, 1) := dk_27 (dk_at dksX4_dies_0 21 rfl rfl)
theorem dX4_dies_22 : decode cX4_dies 22 = .ok (.if_icmp .eq 5, 3) := dk_159 0 5 (dk_at dksX4_dies_1 0 rfl rfl)
theorem dX4_dies_25 : decode cX4_dies 25 = .ok (.iconst 1, 1) := dk_4 (dk_at dksX4_dies_1 3 rfl rfl)
theorem dX4_dies_26 : decode cX4_dies 26 = .ok (.ireturn, 1) := dk_172 (dk_at dksX4_dies_1 4 rfl rfl)
theorem dX4_dies_27 : decode cX4_dies 27 = .ok (.iconst 1, 1) := dk_4 (dk_at dksX4_dies_1 5 rfl rfl)
theorem dX4_dies_28 : decode cX4_dies 28 = .ok (.iload_n 1, 1) := dk_27 (dk_at dksX4_dies_1 6 rfl rfl)
theorem dX4_dies_29 : decode cX4_dies 29 = .ok (.ishl, 1) := dk_120 (dk_at dksX4_dies_1 7 rfl rfl)
theorem dX4_dies_30 : decode cX4_dies 30 = .ok (.istore_n 2, 1) := dk_61 (dk_at dksX4_dies_1 8 rfl rfl)
theorem dX4_dies_31 : decode cX4_dies 31 = .ok (.aload_n 0, 1) := dk_42 (dk_at dksX4_dies_1 9 rfl rfl)
theorem dX4_dies_32 : decode cX4_dies 32 = .ok (.getfield 141, 3) := dk_180 0 141 (dk_at dksX4_dies_1 10 rfl rfl)
theorem dX4_dies_35 : decode cX4_dies 35 = .ok (.iload_n 1, 1) := dk_27 (dk_at dksX4_dies_1 13 rfl rfl)
theorem dX4_dies_36 : decode cX4_dies 36 = .ok (.iaload, 1) := dk_46 (dk_at dksX4_dies_1 14 rfl rfl)
theorem dX4_dies_37 : decode cX4_dies 37 = .ok (.istore_n 3, 1) := dk_62 (dk_at dksX4_dies_1 15 rfl rfl)
theorem dX4_dies_38 : decode cX4_dies 38 = .ok (.iload_n 3, 1) := dk_29 (dk_at dksX4_dies_1 16 rfl rfl)
theorem dX4_dies_39 : decode cX4_dies 39 = .ok (.iconst (-1), 1) := dk_2 (dk_at dksX4_dies_1 17 rfl rfl)
theorem dX4_dies_40 : decode cX4_dies 40 = .ok (.if_icmp .eq 36, 3) := dk_159 0 36 (dk_at dksX4_dies_1 18 rfl rfl)
theorem dX4_dies_43 : decode cX4_dies 43 = .ok (.aload_n 0, 1) := dk_42 (dk_at dksX4_dies_1 21 rfl rfl)
theorem dX4_dies_44 : decode cX4_dies 44 = .ok (.getfield 150, 3) := dk_180 0 150 (dk_at dksX4_dies_2 0 rfl rfl)
theorem dX4_dies_47 : decode cX4_dies 47 = .ok (.iload_n 3, 1) := dk_29 (dk_at dksX4_dies_2 3 rfl rfl)
theorem dX4_dies_48 : decode cX4_dies 48 = .ok (.baload, 1) := dk_51 (dk_at dksX4_dies_2 4 rfl rfl)
theorem dX4_dies_49 : decode cX4_dies 49 = .ok (.ifCond .ne 27, 3) := dk_154 0 27 (dk_at dksX4_dies_2 5 rfl rfl)
theorem dX4_dies_52 : decode cX4_dies 52 = .ok (.iload_n 2, 1) := dk_28 (dk_at dksX4_dies_2 8 rfl rfl)
theorem dX4_dies_53 : decode cX4_dies 53 = .ok (.iload_n 3, 1) := dk_29 (dk_at dksX4_dies_2 9 rfl rfl)
theorem dX4_dies_54 : decode cX4_dies 54 = .ok (.ishr, 1) := dk_122 (dk_at dksX4_dies_2 10 rfl rfl)
theorem dX4_dies_55 : decode cX4_dies 55 = .ok (.iconst 1, 1) := dk_4 (dk_at dksX4_dies_2 11 rfl rfl)
theorem dX4_dies_56 : decode cX4_dies 56 = .ok (.iand, 1) := dk_126 (dk_at dksX4_dies_2 12 rfl rfl)
theorem dX4_dies_57 : decode cX4_dies 57 = .ok (.ifCond .ne 19, 3) := dk_154 0 19 (dk_at dksX4_dies_2 13 rfl rfl)
theorem dX4_dies_60 : decode cX4_dies 60 = .ok (.iload_n 2, 1) := dk_28 (dk_at dksX4_dies_2 16 rfl rfl)
theorem dX4_dies_61 : decode cX4_dies 61 = .ok (.iconst 1, 1) := dk_4 (dk_at dksX4_dies_2 17 rfl rfl)
theorem dX4_dies_62 : decode cX4_dies 62 = .ok (.iload_n 3, 1) := dk_29 (dk_at dksX4_dies_2 18 rfl rfl)
theorem dX4_dies_63 : decode cX4_dies 63 = .ok (.ishl, 1) := dk_120 (dk_at dksX4_dies_2 19 rfl rfl)
theorem dX4_dies_64 : decode cX4_dies 64 = .ok (.ior, 1) := dk_128 (dk_at dksX4_dies_2 20 rfl rfl)
theorem dX4_dies_65 : decode cX4_dies 65 = .ok (.istore_n 2, 1) := dk_61 (dk_at dksX4_dies_2 21 rfl rfl)
theorem dX4_dies_66 : decode cX4_dies 66 = .ok (.aload_n 0, 1) := dk_42 (dk_at dksX4_dies_2 22 rfl rfl)
theorem dX4_dies_67 : decode cX4_dies 67 = .ok (.getfield 141, 3) := dk_180 0 141 (dk_at dksX4_dies_3 0 rfl rfl)
theorem dX4_dies_70 : decode cX4_dies 70 = .ok (.iload_n 3, 1) := dk_29 (dk_at dksX4_dies_3 3 rfl rfl)
theorem dX4_dies_71 : decode cX4_dies 71 = .ok (.iaload, 1) := dk_46 (dk_at dksX4_dies_3 4 rfl rfl)
theorem dX4_dies_72 : decode cX4_dies 72 = .ok (.istore_n 3, 1) := dk_62 (dk_at dksX4_dies_3 5 rfl rfl)
theorem dX4_dies_73 : decode cX4_dies 73 = .ok (.goto (-35), 3) := dk_167 255 221 (dk_at dksX4_dies_3 6 rfl rfl)
theorem dX4_dies_76 : decode cX4_dies 76 = .ok (.iload_n 3, 1) := dk_29 (dk_at dksX4_dies_3 9 rfl rfl)
theorem dX4_dies_77 : decode cX4_dies 77 = .ok (.iconst (-1), 1) := dk_2 (dk_at dksX4_dies_3 10 rfl rfl)
theorem dX4_dies_78 : decode cX4_dies 78 = .ok (.if_icmp .eq 12, 3) := dk_159 0 12 (dk_at dksX4_dies_3 11 rfl rfl)
theorem dX4_dies_81 : decode cX4_dies 81 = .ok (.aload_n 0, 1) := dk_42 (dk_at dksX4_dies_3 14 rfl rfl)
theorem dX4_dies_82 : decode cX4_dies 82 = .ok (.getfield 150, 3) := dk_180 0 150 (dk_at dksX4_dies_3 15 rfl rfl)
theorem dX4_dies_85 : decode cX4_dies 85 = .ok (.iload_n 3, 1) := dk_29 (dk_at dksX4_dies_3 18 rfl rfl)
theorem dX4_dies_86 : decode cX4_dies 86 = .ok (.baload, 1) := dk_51 (dk_at dksX4_dies_3 19 rfl rfl)
theorem dX4_dies_87 : decode cX4_dies 87 = .ok (.ifCond .ne 28, 3) := dk_154 0 28 (dk_at dksX4_dies_3 20 rfl rfl)
theorem dX4_dies_90 : decode cX4_dies 90 = .ok (.iconst 0, 1) := dk_3 (dk_at dksX4_dies_3 23 rfl rfl)
theorem dX4_dies_91 : decode cX4_dies 91 = .ok (.istore_n 3, 1) := dk_62 (dk_at dksX4_dies_4 0 rfl rfl)
theorem dX4_dies_92 : decode cX4_dies 92 = .ok (.iload_n 3, 1) := dk_29 (dk_at dksX4_dies_4 1 rfl rfl)
theorem dX4_dies_93 : decode cX4_dies 93 = .ok (.aload_n 0, 1) := dk_42 (dk_at dksX4_dies_4 2 rfl rfl)
theorem dX4_dies_94 : decode cX4_dies 94 = .ok (.getfield 500, 3) := dk_180 1 244 (dk_at dksX4_dies_4 3 rfl rfl)
theorem dX4_dies_97 : decode cX4_dies 97 = .ok (.if_icmp .ge 18, 3) := dk_162 0 18 (dk_at dksX4_dies_4 6 rfl rfl)
theorem dX4_dies_100 : decode cX4_dies 100 = .ok (.aload_n 0, 1) := dk_42 (dk_at dksX4_dies_4 9 rfl rfl)
theorem dX4_dies_101 : decode cX4_dies 101 = .ok (.getfield 150, 3) := dk_180 0 150 (dk_at dksX4_dies_4 10 rfl rfl)
theorem dX4_dies_104 : decode cX4_dies 104 = .ok (.iload_n 3, 1) := dk_29 (dk_at dksX4_dies_4 13 rfl rfl)
theorem dX4_dies_105 : decode cX4_dies 105 = .ok (.baload, 1) := dk_51 (dk_at dksX4_dies_4 14 rfl rfl)
theorem dX4_dies_106 : decode cX4_dies 106 = .ok (.ifCond .ne 9, 3) := dk_154 0 9 (dk_at dksX4_dies_4 15 rfl rfl)
theorem dX4_dies_109 : decode cX4_dies 109 = .ok (.iinc 3 1, 3) := dk_132 3 1 (dk_at dksX4_dies_4 18 rfl rfl)
theorem dX4_dies_112 : decode cX4_dies 112 = .ok (.goto (-20), 3) := dk_167 255 236 (dk_at dksX4_dies_4 21 rfl rfl)
theorem dX4_dies_115 : decode cX4_dies 115 = .ok (.aload_n 0, 1) := dk_42 (dk_at dksX4_dies_5 0 rfl rfl)
theorem dX4_dies_116 : decode cX4_dies 116 = .ok (.iload_n 3, 1) := dk_29 (dk_at dksX4_dies_5 1 rfl rfl)
theorem dX4_dies_117 : decode cX4_dies 117 = .ok (.aload_n 0, 1) := dk_42 (dk_at dksX4_dies_5 2 rfl rfl)
theorem dX4_dies_118 : decode cX4_dies 118 = .ok (.getfield 500, 3) := dk_180 1 244 (dk_at dksX4_dies_5 3 rfl rfl)
theorem dX4_dies_121 : decode cX4_dies 121 = .ok (.if_icmp .ne 7, 3) := dk_160 0 7 (dk_at dksX4_dies_5 6 rfl rfl)
theorem dX4_dies_124 : decode cX4_dies 124 = .ok (.iconst (-1), 1) := dk_2 (dk_at dksX4_dies_5 9 rfl rfl)
theorem dX4_dies_125 : decode cX4_dies 125 = .ok (.goto 4, 3) := dk_167 0 4 (dk_at dksX4_dies_5 10 rfl rfl)
theorem dX4_dies_128 : decode cX4_dies 128 = .ok (.iload_n 3, 1) := dk_29 (dk_at dksX4_dies_5 13 rfl rfl)
theorem dX4_dies_129 : decode cX4_dies 129 = .ok (.putfield 135, 3) := dk_181 0 135 (dk_at dksX4_dies_5 14 rfl rfl)
theorem dX4_dies_132 : decode cX4_dies 132 = .ok (.iconst 1, 1) := dk_4 (dk_at dksX4_dies_5 17 rfl rfl)
theorem dX4_dies_133 : decode cX4_dies 133 = .ok (.ireturn, 1) := dk_172 (dk_at dksX4_dies_5 18 rfl rfl)
abbrev cX4_isLiving : ByteArray := prog_23_method_66_code
def yX4_isLiving : MethodName := ⟨RX4, "isLiving", "(I)Z"⟩
def dkwX4_isLiving_0 : List UInt8 := [42, 27, 182, 0, 251, 153, 0, 16, 42, 180, 0, 150, 27, 51, 153, 0, 7, 4, 167, 0, 4, 3, 172]
abbrev dktX4_isLiving_0 : List UInt8 := dkwX4_isLiving_0 ++ []
theorem dksX4_isLiving_0 : cX4_isLiving.data.toList.drop 0 = dktX4_isLiving_0 := by decide +kernel
theorem dX4_isLiving_0 : decode cX4_isLiving 0 = .ok (.aload_n 0, 1) := dk_42 (dk_at dksX4_isLiving_0 0 rfl rfl)
theorem dX4_isLiving_1 : decode cX4_isLiving 1 = .ok (.iload_n 1, 1) := dk_27 (dk_at dksX4_isLiving_0 1 rfl rfl)
theorem dX4_isLiving_2 : decode cX4_isLiving 2 = .ok (.invokevirtual 251, 3) := dk_182 0 251 (dk_at dksX4_isLiving_0 2 rfl rfl)
theorem dX4_isLiving_5 : decode cX4_isLiving 5 = .ok (.ifCond .eq 16, 3) := dk_153 0 16 (dk_at dksX4_isLiving_0 5 rfl rfl)
theorem dX4_isLiving_8 : decode cX4_isLiving 8 = .ok (.aload_n 0, 1) := dk_42 (dk_at dksX4_isLiving_0 8 rfl rfl)
theorem dX4_isLiving_9 : decode cX4_isLiving 9 = .ok (.getfield 150, 3) := dk_180 0 150 (dk_at dksX4_isLiving_0 9 rfl rfl)
theorem dX4_isLiving_12 : decode cX4_isLiving 12 = .ok (.iload_n 1, 1) := dk_27 (dk_at dksX4_isLiving_0 12 rfl rfl)
theorem dX4_isLiving_13 : decode cX4_isLiving 13 = .ok (.baload, 1) := dk_51 (dk_at dksX4_isLiving_0 13 rfl rfl)
theorem dX4_isLiving_14 : decode cX4_isLiving 14 = .ok (.ifCond .eq 7, 3) := dk_153 0 7 (dk_at dksX4_isLiving_0 14 rfl rfl)
theorem dX4_isLiving_17 : decode cX4_isLiving 17 = .ok (.iconst 1, 1) := dk_4 (dk_at dksX4_isLiving_0 17 rfl rfl)
theorem dX4_isLiving_18 : decode cX4_isLiving 18 = .ok (.goto 4, 3) := dk_167 0 4 (dk_at dksX4_isLiving_0 18 rfl rfl)
theorem dX4_isLiving_21 : decode cX4_isLiving 21 = .ok (.iconst 0, 1) := dk_3 (dk_at dksX4_isLiving_0 21 rfl rfl)
theorem dX4_isLiving_22 : decode cX4_isLiving 22 = .ok (.ireturn, 1) := dk_172 (dk_at dksX4_isLiving_0 22 rfl rfl)
abbrev cX4_gives : ByteArray := prog_23_method_70_code
def yX4_gives : MethodName := ⟨RX4, "gives", "(I)Z"⟩
def dkwX4_gives_1 : List UInt8 := [172]
abbrev dktX4_gives_1 : List UInt8 := dkwX4_gives_1 ++ []
def dkwX4_gives_0 : List UInt8 := [42, 27, 182, 1, 247, 153, 0, 11, 42, 180, 0, 135, 27, 160, 0, 5, 3, 172, 42, 27, 181, 0, 135, 4]
abbrev dktX4_gives_0 : List UInt8 := dkwX4_gives_0 ++ dktX4_gives_1
theorem dksX4_gives_0 : cX4_gives.data.toList.drop 0 = dktX4_gives_0 := by decide +kernel
theorem dksX4_gives_1 : cX4_gives.data.toList.drop 24 = dktX4_gives_1 := dk_seg dksX4_gives_0 24 rfl rfl
theorem dX4_gives_0 : decode cX4_gives 0 = .ok (.aload_n 0, 1) := dk_42 (dk_at dksX4_gives_0 0 rfl rfl)
theorem dX4_gives_1 : decode cX4_gives 1 = .ok (.iload_n 1, 1) := dk_27 (dk_at dksX4_gives_0 1 rfl rfl)
theorem dX4_gives_2 : decode cX4_gives 2 = .ok (.invokevirtual 503, 3) := dk_182 1 247 (dk_at dksX4_gives_0 2 rfl rfl)
theorem dX4_gives_5 : decode cX4_gives 5 = .ok (.ifCond .eq 11, 3) := dk_153 0 11 (dk_at dksX4_gives_0 5 rfl rfl)
theorem dX4_gives_8 : decode cX4_gives 8 = .ok (.aload_n 0, 1) := dk_42 (dk_at dksX4_gives_0 8 rfl rfl)
theorem dX4_gives_9 : decode cX4_gives 9 = .ok (.getfield 135, 3) := dk_180 0 135 (dk_at dksX4_gives_0 9 rfl rfl)
theorem dX4_gives_12 : decode cX4_gives 12 = .ok (.iload_n 1, 1) := dk_27 (dk_at dksX4_gives_0 12 rfl rfl)
theorem dX4_gives_13 : decode cX4_gives 13 = .ok (.if_icmp .ne 5, 3) := dk_160 0 5 (dk_at dksX4_gives_0 13 rfl rfl)
theorem dX4_gives_16 : decode cX4_gives 16 = .ok (.iconst 0, 1) := dk_3 (dk_at dksX4_gives_0 16 rfl rfl)
theorem dX4_gives_17 : decode cX4_gives 17 = .ok (.ireturn, 1) := dk_172 (dk_at dksX4_gives_0 17 rfl rfl)
theorem dX4_gives_18 : decode cX4_gives 18 = .ok (.aload_n 0, 1) := dk_42 (dk_at dksX4_gives_0 18 rfl rfl)
theorem dX4_gives_19 : decode cX4_gives 19 = .ok (.iload_n 1, 1) := dk_27 (dk_at dksX4_gives_0 19 rfl rfl)
theorem dX4_gives_20 : decode cX4_gives 20 = .ok (.putfield 135, 3) := dk_181 0 135 (dk_at dksX4_gives_0 20 rfl rfl)
theorem dX4_gives_23 : decode cX4_gives 23 = .ok (.iconst 1, 1) := dk_4 (dk_at dksX4_gives_0 23 rfl rfl)
theorem dX4_gives_24 : decode cX4_gives 24 = .ok (.ireturn, 1) := dk_172 (dk_at dksX4_gives_1 0 rfl rfl)
abbrev cX4_whoIs : ByteArray := prog_23_method_71_code
def yX4_whoIs : MethodName := ⟨RX4, "whoIs", "(II)I"⟩
def dkwX4_whoIs_3 : List UInt8 := [167, 0, 4, 3, 172, 42, 180, 0, 144, 27, 46, 172, 42, 180, 0, 147, 27, 46, 172, 2, 172]
abbrev dktX4_whoIs_3 : List UInt8 := dkwX4_whoIs_3 ++ []
def dkwX4_whoIs_2 : List UInt8 := [42, 180, 0, 138, 27, 46, 172, 42, 180, 0, 141, 27, 46, 172, 42, 180, 0, 150, 27, 51, 153, 0, 7, 4]
abbrev dktX4_whoIs_2 : List UInt8 := dkwX4_whoIs_2 ++ dktX4_whoIs_3
def dkwX4_whoIs_1 : List UInt8 := [170, 0, 0, 0, 76, 0, 0, 0, 0, 0, 0, 0, 4, 0, 0, 0, 33, 0, 0, 0, 40, 0, 0, 0, 47, 0, 0, 0, 62, 0, 0, 0, 69]
abbrev dktX4_whoIs_1 : List UInt8 := dkwX4_whoIs_1 ++ dktX4_whoIs_2
def dkwX4_whoIs_0 : List UInt8 := [42, 27, 182, 0, 251, 154, 0, 5, 2, 172, 28]
abbrev dktX4_whoIs_0 : List UInt8 := dkwX4_whoIs_0 ++ dktX4_whoIs_1
theorem dksX4_whoIs_0 : cX4_whoIs.data.toList.drop 0 = dktX4_whoIs_0 := by decide +kernel
theorem dksX4_whoIs_1 : cX4_whoIs.data.toList.drop 11 = dktX4_whoIs_1 := dk_seg dksX4_whoIs_0 11 rfl rfl
theorem dksX4_whoIs_2 : cX4_whoIs.data.toList.drop 44 = dktX4_whoIs_2 := dk_seg dksX4_whoIs_1 33 rfl rfl
theorem dksX4_whoIs_3 : cX4_whoIs.data.toList.drop 68 = dktX4_whoIs_3 := dk_seg dksX4_whoIs_2 24 rfl rfl
theorem dX4_whoIs_0 : decode cX4_whoIs 0 = .ok (.aload_n 0, 1) := dk_42 (dk_at dksX4_whoIs_0 0 rfl rfl)
theorem dX4_whoIs_1 : decode cX4_whoIs 1 = .ok (.iload_n 1, 1) := dk_27 (dk_at dksX4_whoIs_0 1 rfl rfl)
theorem dX4_whoIs_2 : decode cX4_whoIs 2 = .ok (.invokevirtual 251, 3) := dk_182 0 251 (dk_at dksX4_whoIs_0 2 rfl rfl)
theorem dX4_whoIs_5 : decode cX4_whoIs 5 = .ok (.ifCond .ne 5, 3) := dk_154 0 5 (dk_at dksX4_whoIs_0 5 rfl rfl)
theorem dX4_whoIs_8 : decode cX4_whoIs 8 = .ok (.iconst (-1), 1) := dk_2 (dk_at dksX4_whoIs_0 8 rfl rfl)
theorem dX4_whoIs_9 : decode cX4_whoIs 9 = .ok (.ireturn, 1) := dk_172 (dk_at dksX4_whoIs_0 9 rfl rfl)
theorem dX4_whoIs_10 : decode cX4_whoIs 10 = .ok (.iload_n 2, 1) := dk_28 (dk_at dksX4_whoIs_0 10 rfl rfl)
theorem dX4_whoIs_11 : decode cX4_whoIs 11 = .ok (.tableswitch 76 0 4 #[33, 40, 47, 62, 69], 33) := by decide +kernel
theorem dX4_whoIs_44 : decode cX4_whoIs 44 = .ok (.aload_n 0, 1) := dk_42 (dk_at dksX4_whoIs_2 0 rfl rfl)
theorem dX4_whoIs_45 : decode cX4_whoIs 45 = .ok (.getfield 138, 3) := dk_180 0 138 (dk_at dksX4_whoIs_2 1 rfl rfl)
theorem dX4_whoIs_48 : decode cX4_whoIs 48 = .ok (.iload_n 1, 1) := dk_27 (dk_at dksX4_whoIs_2 4 rfl rfl)
theorem dX4_whoIs_49 : decode cX4_whoIs 49 = .ok (.iaload, 1) := dk_46 (dk_at dksX4_whoIs_2 5 rfl rfl)
theorem dX4_whoIs_50 : decode cX4_whoIs 50 = .ok (.ireturn, 1) := dk_172 (dk_at dksX4_whoIs_2 6 rfl rfl)
theorem dX4_whoIs_51 : decode cX4_whoIs 51 = .ok (.aload_n 0, 1) := dk_42 (dk_at dksX4_whoIs_2 7 rfl rfl)
theorem dX4_whoIs_52 : decode cX4_whoIs 52 = .ok (.getfield 141, 3) := dk_180 0 141 (dk_at dksX4_whoIs_2 8 rfl rfl)
theorem dX4_whoIs_55 : decode cX4_whoIs 55 = .ok (.iload_n 1, 1) := dk_27 (dk_at dksX4_whoIs_2 11 rfl rfl)
theorem dX4_whoIs_56 : decode cX4_whoIs 56 = .ok (.iaload, 1) := dk_46 (dk_at dksX4_whoIs_2 12 rfl rfl)
theorem dX4_whoIs_57 : decode cX4_whoIs 57 = .ok (.ireturn, 1) := dk_172 (dk_at dksX4_whoIs_2 13 rfl rfl)
theorem dX4_whoIs_58 : decode cX4_whoIs 58 = .ok (.aload_n 0, 1) := dk_42 (dk_at dksX4_whoIs_2 14 rfl rfl)
theorem dX4_whoIs_59 : decode cX4_whoIs 59 = .ok (.getfield 150, 3) := dk_180 0 150 (dk_at dksX4_whoIs_2 15 rfl rfl)
theorem dX4_whoIs_62 : decode cX4_whoIs 62 = .ok (.iload_n 1, 1) := dk_27 (dk_at dksX4_whoIs_2 18 rfl rfl)
theorem dX4_whoIs_63 : decode cX4_whoIs 63 = .ok (.baload, 1) := dk_51 (dk_at dksX4_whoIs_2 19 rfl rfl)
theorem dX4_whoIs_64 : decode cX4_whoIs 64 = .ok (.ifCond .eq 7, 3) := dk_153 0 7 (dk_at dksX4_whoIs_2 20 rfl rfl)
theorem dX4_whoIs_67 : decode cX4_whoIs 67 = .ok (.iconst 1, 1) := dk_4 (dk_at dksX4_whoIs_2 23 rfl rfl)
theorem dX4_whoIs_68 : decode cX4_whoIs 68 = .ok (.goto 4, 3) := dk_167 0 4 (dk_at dksX4_whoIs_3 0 rfl rfl)
theorem dX4_whoIs_71 : decode cX4_whoIs 71 = .ok (.iconst 0, 1) := dk_3 (dk_at dksX4_whoIs_3 3 rfl rfl)
theorem dX4_whoIs_72 : decode cX4_whoIs 72 = .ok (.ireturn, 1) := dk_172 (dk_at dksX4_whoIs_3 4 rfl rfl)
theorem dX4_whoIs_73 : decode cX4_whoIs 73 = .ok (.aload_n 0, 1) := dk_42 (dk_at dksX4_whoIs_3 5 rfl rfl)
theorem dX4_whoIs_74 : decode cX4_whoIs 74 = .ok (.getfield 144, 3) := dk_180 0 144 (dk_at dksX4_whoIs_3 6 rfl rfl)
theorem dX4_whoIs_77 : decode cX4_whoIs 77 = .ok (.iload_n 1, 1) := dk_27 (dk_at dksX4_whoIs_3 9 rfl rfl)
theorem dX4_whoIs_78 : decode cX4_whoIs 78 = .ok (.iaload, 1) := dk_46 (dk_at dksX4_whoIs_3 10 rfl rfl)
theorem dX4_whoIs_79 : decode cX4_whoIs 79 = .ok (.ireturn, 1) := dk_172 (dk_at dksX4_whoIs_3 11 rfl rfl)
theorem dX4_whoIs_80 : decode cX4_whoIs 80 = .ok (.aload_n 0, 1) := dk_42 (dk_at dksX4_whoIs_3 12 rfl rfl)
theorem dX4_whoIs_81 : decode cX4_whoIs 81 = .ok (.getfield 147, 3) := dk_180 0 147 (dk_at dksX4_whoIs_3 13 rfl rfl)
theorem dX4_whoIs_84 : decode cX4_whoIs 84 = .ok (.iload_n 1, 1) := dk_27 (dk_at dksX4_whoIs_3 16 rfl rfl)
theorem dX4_whoIs_85 : decode cX4_whoIs 85 = .ok (.iaload, 1) := dk_46 (dk_at dksX4_whoIs_3 17 rfl rfl)
theorem dX4_whoIs_86 : decode cX4_whoIs 86 = .ok (.ireturn, 1) := dk_172 (dk_at dksX4_whoIs_3 18 rfl rfl)
theorem dX4_whoIs_87 : decode cX4_whoIs 87 = .ok (.iconst (-1), 1) := dk_2 (dk_at dksX4_whoIs_3 19 rfl rfl)
theorem dX4_whoIs_88 : decode cX4_whoIs 88 = .ok (.ireturn, 1) := dk_172 (dk_at dksX4_whoIs_3 20 rfl rfl)
abbrev cX4_cut : ByteArray := prog_23_method_73_code
def yX4_cut : MethodName := ⟨RX4, "cut", "(IIII)I"⟩
def dkwX4_cut_17 : List UInt8 := [21, 5, 172]
abbrev dktX4_cut_17 : List UInt8 := dkwX4_cut_17 ++ []
def dkwX4_cut_16 : List UInt8 := [42, 89, 180, 1, 38, 42, 180, 1, 225, 96, 181, 1, 38, 42, 180, 0, 144, 21, 4, 92, 46, 4, 96, 79]
abbrev dktX4_cut_16 : List UInt8 := dkwX4_cut_16 ++ dktX4_cut_17
def dkwX4_cut_15 : List UInt8 := [180, 0, 165, 21, 5, 21, 4, 79, 42, 180, 0, 171, 21, 5, 2, 79, 42, 180, 0, 174, 21, 5, 2, 79]
abbrev dktX4_cut_15 : List UInt8 := dkwX4_cut_15 ++ dktX4_cut_16
def dkwX4_cut_14 : List UInt8 := [21, 8, 16, 90, 164, 0, 8, 16, 90, 167, 0, 5, 21, 8, 79, 42, 180, 0, 162, 21, 5, 29, 79, 42]
abbrev dktX4_cut_14 : List UInt8 := dkwX4_cut_14 ++ dktX4_cut_15
def dkwX4_cut_13 : List UInt8 := [167, 0, 17, 21, 7, 16, 90, 164, 0, 8, 16, 90, 167, 0, 5, 21, 7, 79, 42, 180, 0, 159, 21, 5]
abbrev dktX4_cut_13 : List UInt8 := dkwX4_cut_13 ++ dktX4_cut_14
def dkwX4_cut_12 : List UInt8 := [4, 100, 42, 180, 1, 225, 108, 8, 96, 54, 8, 42, 180, 0, 156, 21, 5, 21, 7, 156, 0, 7, 3]
abbrev dktX4_cut_12 : List UInt8 := dkwX4_cut_12 ++ dktX4_cut_13
def dkwX4_cut_11 : List UInt8 := [16, 10, 21, 6, 104, 42, 180, 1, 225, 108, 8, 100, 54, 7, 16, 10, 21, 6, 104, 42, 180, 1, 225, 96]
abbrev dktX4_cut_11 : List UInt8 := dkwX4_cut_11 ++ dktX4_cut_12
def dkwX4_cut_10 : List UInt8 := [96, 21, 10, 79, 42, 180, 0, 180, 21, 5, 92, 46, 4, 21, 8, 120, 128, 79, 132, 7, 1, 167, 255, 109]
abbrev dktX4_cut_10 : List UInt8 := dkwX4_cut_10 ++ dktX4_cut_11
def dkwX4_cut_9 : List UInt8 := [21, 8, 21, 9, 79, 42, 180, 0, 50, 21, 8, 4, 84, 42, 180, 0, 177, 16, 12, 21, 5, 104, 21, 8]
abbrev dktX4_cut_9 : List UInt8 := dkwX4_cut_9 ++ dktX4_cut_10
def dkwX4_cut_8 : List UInt8 := [180, 0, 38, 21, 8, 16, 100, 21, 9, 104, 42, 180, 0, 32, 21, 8, 46, 108, 79, 42, 180, 0, 32]
abbrev dktX4_cut_8 : List UInt8 := dkwX4_cut_8 ++ dktX4_cut_9
def dkwX4_cut_7 : List UInt8 := [54, 11, 21, 6, 21, 11, 96, 54, 6, 42, 180, 0, 35, 21, 8, 92, 46, 21, 11, 100, 79, 42]
abbrev dktX4_cut_7 : List UInt8 := dkwX4_cut_7 ++ dktX4_cut_8
def dkwX4_cut_6 : List UInt8 := [21, 9, 100, 54, 10, 42, 180, 0, 35, 21, 8, 46, 21, 10, 104, 42, 180, 0, 32, 21, 8, 46, 108]
abbrev dktX4_cut_6 : List UInt8 := dkwX4_cut_6 ++ dktX4_cut_7
def dkwX4_cut_5 : List UInt8 := [180, 0, 132, 21, 7, 46, 54, 8, 42, 3, 21, 8, 182, 1, 194, 54, 9, 42, 180, 0, 32, 21, 8, 46]
abbrev dktX4_cut_5 : List UInt8 := dkwX4_cut_5 ++ dktX4_cut_6
def dkwX4_cut_4 : List UInt8 := [3, 54, 6, 42, 180, 0, 180, 21, 5, 3, 79, 3, 54, 7, 21, 7, 42, 180, 1, 222, 162, 0, 144, 42]
abbrev dktX4_cut_4 : List UInt8 := dkwX4_cut_4 ++ dktX4_cut_5
def dkwX4_cut_3 : List UInt8 := [182, 1, 240, 42, 180, 1, 222, 154, 0, 5, 2, 172, 42, 42, 180, 1, 225, 3, 3, 182, 1, 250, 54, 5]
abbrev dktX4_cut_3 : List UInt8 := dkwX4_cut_3 ++ dktX4_cut_4
def dkwX4_cut_2 : List UInt8 := [180, 0, 60, 3, 46, 161, 0, 12, 42, 180, 1, 32, 16, 40, 160, 0, 5, 2, 172, 42, 27, 28, 29]
abbrev dktX4_cut_2 : List UInt8 := dkwX4_cut_2 ++ dktX4_cut_3
def dkwX4_cut_1 : List UInt8 := [153, 0, 41, 29, 21, 4, 159, 0, 35, 42, 180, 0, 135, 29, 160, 0, 27, 42, 180, 0, 144, 29, 46, 42]
abbrev dktX4_cut_1 : List UInt8 := dkwX4_cut_1 ++ dktX4_cut_2
def dkwX4_cut_0 : List UInt8 := [42, 27, 28, 29, 182, 1, 213, 153, 0, 58, 42, 29, 182, 1, 247, 153, 0, 50, 42, 21, 4, 182, 1, 247]
abbrev dktX4_cut_0 : List UInt8 := dkwX4_cut_0 ++ dktX4_cut_1
theorem dksX4_cut_0 : cX4_cut.data.toList.drop 0 = dktX4_cut_0 := by decide +kernel
theorem dksX4_cut_1 : cX4_cut.data.toList.drop 24 = dktX4_cut_1 := dk_seg dksX4_cut_0 24 rfl rfl
theorem dksX4_cut_2 : cX4_cut.data.toList.drop 48 = dktX4_cut_2 := dk_seg dksX4_cut_1 24 rfl rfl
theorem dksX4_cut_3 : cX4_cut.data.toList.drop 71 = dktX4_cut_3 := dk_seg dksX4_cut_2 23 rfl rfl
theorem dksX4_cut_4 : cX4_cut.data.toList.drop 95 = dktX4_cut_4 := dk_seg dksX4_cut_3 24 rfl rfl
theorem dksX4_cut_5 : cX4_cut.data.toList.drop 119 = dktX4_cut_5 := dk_seg dksX4_cut_4 24 rfl rfl
theorem dksX4_cut_6 : cX4_cut.data.toList.drop 143 = dktX4_cut_6 := dk_seg dksX4_cut_5 24 rfl rfl
theorem dksX4_cut_7 : cX4_cut.data.toList.drop 166 = dktX4_cut_7 := dk_seg dksX4_cut_6 23 rfl rfl
theorem dksX4_cut_8 : cX4_cut.data.toList.drop 188 = dktX4_cut_8 := dk_seg dksX4_cut_7 22 rfl rfl
theorem dksX4_cut_9 : cX4_cut.data.toList.drop 211 = dktX4_cut_9 := dk_seg dksX4_cut_8 23 rfl rfl
theorem dksX4_cut_10 : cX4_cut.data.toList.drop 235 = dktX4_cut_10 := dk_seg dksX4_cut_9 24 rfl rfl
theorem dksX4_cut_11 : cX4_cut.data.toList.drop 259 = dktX4_cut_11 := dk_seg dksX4_cut_10 24 rfl rfl
theorem dksX4_cut_12 : cX4_cut.data.toList.drop 283 = dktX4_cut_12 := dk_seg dksX4_cut_11 24 rfl rfl
theorem dksX4_cut_13 : cX4_cut.data.toList.drop 306 = dktX4_cut_13 := dk_seg dksX4_cut_12 23 rfl rfl
theorem dksX4_cut_14 : cX4_cut.data.toList.drop 330 = dktX4_cut_14 := dk_seg dksX4_cut_13 24 rfl rfl
theorem dksX4_cut_15 : cX4_cut.data.toList.drop 354 = dktX4_cut_15 := dk_seg dksX4_cut_14 24 rfl rfl
theorem dksX4_cut_16 : cX4_cut.data.toList.drop 378 = dktX4_cut_16 := dk_seg dksX4_cut_15 24 rfl rfl
theorem dksX4_cut_17 : cX4_cut.data.toList.drop 402 = dktX4_cut_17 := dk_seg dksX4_cut_16 24 rfl rfl
theorem dX4_cut_0 : decode cX4_cut 0 = .ok (.aload_n 0, 1) := dk_42 (dk_at dksX4_cut_0 0 rfl rfl)
theorem dX4_cut_1 : decode cX4_cut 1 = .ok (.iload_n 1, 1) := dk_27 (dk_at dksX4_cut_0 1 rfl rfl)
theorem dX4_cut_2 : decode cX4_cut 2 = .ok (.iload_n 2, 1) := dk_28 (dk_at dksX4_cut_0 2 rfl rfl)
theorem dX4_cut_3 : decode cX4_cut 3 = .ok (.iload_n 3, 1) := dk_29 (dk_at dksX4_cut_0 3 rfl rfl)
theorem dX4_cut_4 : decode cX4_cut 4 = .ok (.invokevirtual 469, 3) := dk_182 1 213 (dk_at dksX4_cut_0 4 rfl rfl)
theorem dX4_cut_7 : decode cX4_cut 7 = .ok (.ifCond .eq 58, 3) := dk_153 0 58 (dk_at dksX4_cut_0 7 rfl rfl)
theorem dX4_cut_10 : decode cX4_cut 10 = .ok (.aload_n 0, 1) := dk_42 (dk_at dksX4_cut_0 10 rfl rfl)
theorem dX4_cut_11 : decode cX4_cut 11 = .ok (.iload_n 3, 1) := dk_29 (dk_at dksX4_cut_0 11 rfl rfl)
theorem dX4_cut_12 : decode cX4_cut 12 = .ok (.invokevirtual 503, 3) := dk_182 1 247 (dk_at dksX4_cut_0 12 rfl rfl)
theorem dX4_cut_15 : decode cX4_cut 15 = .ok (.ifCond .eq 50, 3) := dk_153 0 50 (dk_at dksX4_cut_0 15 rfl rfl)
theorem dX4_cut_18 : decode cX4_cut 18 = .ok (.aload_n 0, 1) := dk_42 (dk_at dksX4_cut_0 18 rfl rfl)
theorem dX4_cut_19 : decode cX4_cut 19 = .ok (.iload 4, 2) := dk_21 4 (dk_at dksX4_cut_0 19 rfl rfl)
theorem dX4_cut_21 : decode cX4_cut 21 = .ok (.invokevirtual 503, 3) := dk_182 1 247 (dk_at dksX4_cut_0 21 rfl rfl)
theorem dX4_cut_24 : decode cX4_cut 24 = .ok (.ifCond .eq 41, 3) := dk_153 0 41 (dk_at dksX4_cut_1 0 rfl rfl)
theorem dX4_cut_27 : decode cX4_cut 27 = .ok (.iload_n 3, 1) := dk_29 (dk_at dksX4_cut_1 3 rfl rfl)
theorem dX4_cut_28 : decode cX4_cut 28 = .ok (.iload 4, 2) := dk_21 4 (dk_at dksX4_cut_1 4 rfl rfl)
theorem dX4_cut_30 : decode cX4_cut 30 = .ok (.if_icmp .eq 35, 3) := dk_159 0 35 (dk_at dksX4_cut_1 6 rfl rfl)
theorem dX4_cut_33 : decode cX4_cut 33 = .ok (.aload_n 0, 1) := dk_42 (dk_at dksX4_cut_1 9 rfl rfl)
theorem dX4_cut_34 : decode cX4_cut 34 = .ok (.getfield 135, 3) := dk_180 0 135 (dk_at dksX4_cut_1 10 rfl rfl)
theorem dX4_cut_37 : decode cX4_cut 37 = .ok (.iload_n 3, 1) := dk_29 (dk_at dksX4_cut_1 13 rfl rfl)
theorem dX4_cut_38 : decode cX4_cut 38 = .ok (.if_icmp .ne 27, 3) := dk_160 0 27 (dk_at dksX4_cut_1 14 rfl rfl)
theorem dX4_cut_41 : decode cX4_cut 41 = .ok (.aload_n 0, 1) := dk_42 (dk_at dksX4_cut_1 17 rfl rfl)
theorem dX4_cut_42 : decode cX4_cut 42 = .ok (.getfield 144, 3) := dk_180 0 144 (dk_at dksX4_cut_1 18 rfl rfl)
theorem dX4_cut_45 : decode cX4_cut 45 = .ok (.iload_n 3, 1) := dk_29 (dk_at dksX4_cut_1 21 rfl rfl)
theorem dX4_cut_46 : decode cX4_cut 46 = .ok (.iaload, 1) := dk_46 (dk_at dksX4_cut_1 22 rfl rfl)
theorem dX4_cut_47 : decode cX4_cut 47 = .ok (.aload_n 0, 1) := dk_42 (dk_at dksX4_cut_1 23 rfl rfl)
theorem dX4_cut_48 : decode cX4_cut 48 = .ok (.getfield 60, 3) := dk_180 0 60 (dk_at dksX4_cut_2 0 rfl rfl)
theorem dX4_cut_51 : decode cX4_cut 51 = .ok (.iconst 0, 1) := dk_3 (dk_at dksX4_cut_2 3 rfl rfl)
theorem dX4_cut_52 : decode cX4_cut 52 = .ok (.iaload, 1) := dk_46 (dk_at dksX4_cut_2 4 rfl rfl)
theorem dX4_cut_53 : decode cX4_cut 53 = .ok (.if_icmp .lt 12, 3) := dk_161 0 12 (dk_at dksX4_cut_2 5 rfl rfl)
theorem dX4_cut_56 : decode cX4_cut 56 = .ok (.aload_n 0, 1) := dk_42 (dk_at dksX4_cut_2 8 rfl rfl)
theorem dX4_cut_57 : decode cX4_cut 57 = .ok (.getfield 288, 3) := dk_180 1 32 (dk_at dksX4_cut_2 9 rfl rfl)
theorem dX4_cut_60 : decode cX4_cut 60 = .ok (.bipush 40, 2) := dk_16 40 (dk_at dksX4_cut_2 12 rfl rfl)
theorem dX4_cut_62 : decode cX4_cut 62 = .ok (.if_icmp .ne 5, 3) := dk_160 0 5 (dk_at dksX4_cut_2 14 rfl rfl)
theorem dX4_cut_65 : decode cX4_cut 65 = .ok (.iconst (-1), 1) := dk_2 (dk_at dksX4_cut_2 17 rfl rfl)
theorem dX4_cut_66 : decode cX4_cut 66 = .ok (.ireturn, 1) := dk_172 (dk_at dksX4_cut_2 18 rfl rfl)
theorem dX4_cut_67 : decode cX4_cut 67 = .ok (.aload_n 0, 1) := dk_42 (dk_at dksX4_cut_2 19 rfl rfl)
theorem dX4_cut_68 : decode cX4_cut 68 = .ok (.iload_n 1, 1) := dk_27 (dk_at dksX4_cut_2 20 rfl rfl)
theorem dX4_cut_69 : decode cX4_cut 69 = .ok (.iload_n 2, 1) := dk_28 (dk_at dksX4_cut_2 21 rfl rfl)
theorem dX4_cut_70 : decode cX4_cut 70 = .ok (.iload_n 3, 1) := dk_29 (dk_at dksX4_cut_2 22 rfl rfl)
theorem dX4_cut_71 : decode cX4_cut 71 = .ok (.invokevirtual 496, 3) := dk_182 1 240 (dk_at dksX4_cut_3 0 rfl rfl)
theorem dX4_cut_74 : decode cX4_cut 74 = .ok (.aload_n 0, 1) := dk_42 (dk_at dksX4_cut_3 3 rfl rfl)
theorem dX4_cut_75 : decode cX4_cut 75 = .ok (.getfield 478, 3) := dk_180 1 222 (dk_at dksX4_cut_3 4 rfl rfl)
theorem dX4_cut_78 : decode cX4_cut 78 = .ok (.ifCond .ne 5, 3) := dk_154 0 5 (dk_at dksX4_cut_3 7 rfl rfl)
theorem dX4_cut_81 : decode cX4_cut 81 = .ok (.iconst (-1), 1) := dk_2 (dk_at dksX4_cut_3 10 rfl rfl)
theorem dX4_cut_82 : decode cX4_cut 82 = .ok (.ireturn, 1) := dk_172 (dk_at dksX4_cut_3 11 rfl rfl)
theorem dX4_cut_83 : decode cX4_cut 83 = .ok (.aload_n 0, 1) := dk_42 (dk_at dksX4_cut_3 12 rfl rfl)
theorem dX4_cut_84 : decode cX4_cut 84 = .ok (.aload_n 0, 1) := dk_42 (dk_at dksX4_cut_3 13 rfl rfl)
theorem dX4_cut_85 : decode cX4_cut 85 = .ok (.getfield 481, 3) := dk_180 1 225 (dk_at dksX4_cut_3 14 rfl rfl)
theorem dX4_cut_88 : decode cX4_cut 88 = .ok (.iconst 0, 1) := dk_3 (dk_at dksX4_cut_3 17 rfl rfl)
theorem dX4_cut_89 : decode cX4_cut 89 = .ok (.iconst 0, 1) := dk_3 (dk_at dksX4_cut_3 18 rfl rfl)
theorem dX4_cut_90 : decode cX4_cut 90 = .ok (.invokevirtual 506, 3) := dk_182 1 250 (dk_at dksX4_cut_3 19 rfl rfl)
theorem dX4_cut_93 : decode cX4_cut 93 = .ok (.istore 5, 2) := dk_54 5 (dk_at dksX4_cut_3 22 rfl rfl)
theorem dX4_cut_95 : decode cX4_cut 95 = .ok (.iconst 0, 1) := dk_3 (dk_at dksX4_cut_4 0 rfl rfl)
theorem dX4_cut_96 : decode cX4_cut 96 = .ok (.istore 6, 2) := dk_54 6 (dk_at dksX4_cut_4 1 rfl rfl)
theorem dX4_cut_98 : decode cX4_cut 98 = .ok (.aload_n 0, 1) := dk_42 (dk_at dksX4_cut_4 3 rfl rfl)
theorem dX4_cut_99 : decode cX4_cut 99 = .ok (.getfield 180, 3) := dk_180 0 180 (dk_at dksX4_cut_4 4 rfl rfl)
theorem dX4_cut_102 : decode cX4_cut 102 = .ok (.iload 5, 2) := dk_21 5 (dk_at dksX4_cut_4 7 rfl rfl)
theorem dX4_cut_104 : decode cX4_cut 104 = .ok (.iconst 0, 1) := dk_3 (dk_at dksX4_cut_4 9 rfl rfl)
theorem dX4_cut_105 : decode cX4_cut 105 = .ok (.iastore, 1) := dk_79 (dk_at dksX4_cut_4 10 rfl rfl)
theorem dX4_cut_106 : decode cX4_cut 106 = .ok (.iconst 0, 1) := dk_3 (dk_at dksX4_cut_4 11 rfl rfl)
theorem dX4_cut_107 : decode cX4_cut 107 = .ok (.istore 7, 2) := dk_54 7 (dk_at dksX4_cut_4 12 rfl rfl)
theorem dX4_cut_109 : decode cX4_cut 109 = .ok (.iload 7, 2) := dk_21 7 (dk_at dksX4_cut_4 14 rfl rfl)
theorem dX4_cut_111 : decode cX4_cut 111 = .ok (.aload_n 0, 1) := dk_42 (dk_at dksX4_cut_4 16 rfl rfl)
theorem dX4_cut_112 : decode cX4_cut 112 = .ok (.getfield 478, 3) := dk_180 1 222 (dk_at dksX4_cut_4 17 rfl rfl)
theorem dX4_cut_115 : decode cX4_cut 115 = .ok (.if_icmp .ge 144, 3) := dk_162 0 144 (dk_at dksX4_cut_4 20 rfl rfl)
theorem dX4_cut_118 : decode cX4_cut 118 = .ok (.aload_n 0, 1) := dk_42 (dk_at dksX4_cut_4 23 rfl rfl)
theorem dX4_cut_119 : decode cX4_cut 119 = .ok (.getfield 132, 3) := dk_180 0 132 (dk_at dksX4_cut_5 0 rfl rfl)
theorem dX4_cut_122 : decode cX4_cut 122 = .ok (.iload 7, 2) := dk_21 7 (dk_at dksX4_cut_5 3 rfl rfl)
theorem dX4_cut_124 : decode cX4_cut 124 = .ok (.iaload, 1) := dk_46 (dk_at dksX4_cut_5 5 rfl rfl)
theorem dX4_cut_125 : decode cX4_cut 125 = .ok (.istore 8, 2) := dk_54 8 (dk_at dksX4_cut_5 6 rfl rfl)
theorem dX4_cut_127 : decode cX4_cut 127 = .ok (.aload_n 0, 1) := dk_42 (dk_at dksX4_cut_5 8 rfl rfl)
theorem dX4_cut_128 : decode cX4_cut 128 = .ok (.iconst 0, 1) := dk_3 (dk_at dksX4_cut_5 9 rfl rfl)
theorem dX4_cut_129 : decode cX4_cut 129 = .ok (.iload 8, 2) := dk_21 8 (dk_at dksX4_cut_5 10 rfl rfl)
theorem dX4_cut_131 : decode cX4_cut 131 = .ok (.invokevirtual 450, 3) := dk_182 1 194 (dk_at dksX4_cut_5 12 rfl rfl)
theorem dX4_cut_134 : decode cX4_cut 134 = .ok (.istore 9, 2) := dk_54 9 (dk_at dksX4_cut_5 15 rfl rfl)
theorem dX4_cut_136 : decode cX4_cut 136 = .ok (.aload_n 0, 1) := dk_42 (dk_at dksX4_cut_5 17 rfl rfl)
theorem dX4_cut_137 : decode cX4_cut 137 = .ok (.getfield 32, 3) := dk_180 0 32 (dk_at dksX4_cut_5 18 rfl rfl)
theorem dX4_cut_140 : decode cX4_cut 140 = .ok (.iload 8, 2) := dk_21 8 (dk_at dksX4_cut_5 21 rfl rfl)
theorem dX4_cut_142 : decode cX4_cut 142 = .ok (.iaload, 1) := dk_46 (dk_at dksX4_cut_5 23 rfl rfl)
theorem dX4_cut_143 : decode cX4_cut 143 = .ok (.iload 9, 2) := dk_21 9 (dk_at dksX4_cut_6 0 rfl rfl)
theorem dX4_cut_145 : decode cX4_cut 145 = .ok (.isub, 1) := dk_100 (dk_at dksX4_cut_6 2 rfl rfl)
theorem dX4_cut_146 : decode cX4_cut 146 = .ok (.istore 10, 2) := dk_54 10 (dk_at dksX4_cut_6 3 rfl rfl)
theorem dX4_cut_148 : decode cX4_cut 148 = .ok (.aload_n 0, 1) := dk_42 (dk_at dksX4_cut_6 5 rfl rfl)
theorem dX4_cut_149 : decode cX4_cut 149 = .ok (.getfield 35, 3) := dk_180 0 35 (dk_at dksX4_cut_6 6 rfl rfl)
theorem dX4_cut_152 : decode cX4_cut 152 = .ok (.iload 8, 2) := dk_21 8 (dk_at dksX4_cut_6 9 rfl rfl)
theorem dX4_cut_154 : decode cX4_cut 154 = .ok (.iaload, 1) := dk_46 (dk_at dksX4_cut_6 11 rfl rfl)
theorem dX4_cut_155 : decode cX4_cut 155 = .ok (.iload 10, 2) := dk_21 10 (dk_at dksX4_cut_6 12 rfl rfl)
theorem dX4_cut_157 : decode cX4_cut 157 = .ok (.imul, 1) := dk_104 (dk_at dksX4_cut_6 14 rfl rfl)
theorem dX4_cut_158 : decode cX4_cut 158 = .ok (.aload_n 0, 1) := dk_42 (dk_at dksX4_cut_6 15 rfl rfl)
theorem dX4_cut_159 : decode cX4_cut 159 = .ok (.getfield 32, 3) := dk_180 0 32 (dk_at dksX4_cut_6 16 rfl rfl)
theorem dX4_cut_162 : decode cX4_cut 162 = .ok (.iload 8, 2) := dk_21 8 (dk_at dksX4_cut_6 19 rfl rfl)
theorem dX4_cut_164 : decode cX4_cut 164 = .ok (.iaload, 1) := dk_46 (dk_at dksX4_cut_6 21 rfl rfl)
theorem dX4_cut_165 : decode cX4_cut 165 = .ok (.idiv, 1) := dk_108 (dk_at dksX4_cut_6 22 rfl rfl)
theorem dX4_cut_166 : decode cX4_cut 166 = .ok (.istore 11, 2) := dk_54 11 (dk_at dksX4_cut_7 0 rfl rfl)
theorem dX4_cut_168 : decode cX4_cut 168 = .ok (.iload 6, 2) := dk_21 6 (dk_at dksX4_cut_7 2 rfl rfl)
theorem dX4_cut_170 : decode cX4_cut 170 = .ok (.iload 11, 2) := dk_21 11 (dk_at dksX4_cut_7 4 rfl rfl)
theorem dX4_cut_172 : decode cX4_cut 172 = .ok (.iadd, 1) := dk_96 (dk_at dksX4_cut_7 6 rfl rfl)
theorem dX4_cut_173 : decode cX4_cut 173 = .ok (.istore 6, 2) := dk_54 6 (dk_at dksX4_cut_7 7 rfl rfl)
theorem dX4_cut_175 : decode cX4_cut 175 = .ok (.aload_n 0, 1) := dk_42 (dk_at dksX4_cut_7 9 rfl rfl)
theorem dX4_cut_176 : decode cX4_cut 176 = .ok (.getfield 35, 3) := dk_180 0 35 (dk_at dksX4_cut_7 10 rfl rfl)
theorem dX4_cut_179 : decode cX4_cut 179 = .ok (.iload 8, 2) := dk_21 8 (dk_at dksX4_cut_7 13 rfl rfl)
theorem dX4_cut_181 : decode cX4_cut 181 = .ok (.dup2, 1) := dk_92 (dk_at dksX4_cut_7 15 rfl rfl)
theorem dX4_cut_182 : decode cX4_cut 182 = .ok (.iaload, 1) := dk_46 (dk_at dksX4_cut_7 16 rfl rfl)
theorem dX4_cut_183 : decode cX4_cut 183 = .ok (.iload 11, 2) := dk_21 11 (dk_at dksX4_cut_7 17 rfl rfl)
theorem dX4_cut_185 : decode cX4_cut 185 = .ok (.isub, 1) := dk_100 (dk_at dksX4_cut_7 19 rfl rfl)
theorem dX4_cut_186 : decode cX4_cut 186 = .ok (.iastore, 1) := dk_79 (dk_at dksX4_cut_7 20 rfl rfl)
theorem dX4_cut_187 : decode cX4_cut 187 = .ok (.aload_n 0, 1) := dk_42 (dk_at dksX4_cut_7 21 rfl rfl)
theorem dX4_cut_188 : decode cX4_cut 188 = .ok (.getfield 38, 3) := dk_180 0 38 (dk_at dksX4_cut_8 0 rfl rfl)
theorem dX4_cut_191 : decode cX4_cut 191 = .ok (.iload 8, 2) := dk_21 8 (dk_at dksX4_cut_8 3 rfl rfl)
theorem dX4_cut_193 : decode cX4_cut 193 = .ok (.bipush 100, 2) := dk_16 100 (dk_at dksX4_cut_8 5 rfl rfl)
theorem dX4_cut_195 : decode cX4_cut 195 = .ok (.iload 9, 2) := dk_21 9 (dk_at dksX4_cut_8 7 rfl rfl)
theorem dX4_cut_197 : decode cX4_cut 197 = .ok (.imul, 1) := dk_104 (dk_at dksX4_cut_8 9 rfl rfl)
theorem dX4_cut_198 : decode cX4_cut 198 = .ok (.aload_n 0, 1) := dk_42 (dk_at dksX4_cut_8 10 rfl rfl)
theorem dX4_cut_199 : decode cX4_cut 199 = .ok (.getfield 32, 3) := dk_180 0 32 (dk_at dksX4_cut_8 11 rfl rfl)
theorem dX4_cut_202 : decode cX4_cut 202 = .ok (.iload 8, 2) := dk_21 8 (dk_at dksX4_cut_8 14 rfl rfl)
theorem dX4_cut_204 : decode cX4_cut 204 = .ok (.iaload, 1) := dk_46 (dk_at dksX4_cut_8 16 rfl rfl)
theorem dX4_cut_205 : decode cX4_cut 205 = .ok (.idiv, 1) := dk_108 (dk_at dksX4_cut_8 17 rfl rfl)
theorem dX4_cut_206 : decode cX4_cut 206 = .ok (.iastore, 1) := dk_79 (dk_at dksX4_cut_8 18 rfl rfl)
theorem dX4_cut_207 : decode cX4_cut 207 = .ok (.aload_n 0, 1) := dk_42 (dk_at dksX4_cut_8 19 rfl rfl)
theorem dX4_cut_208 : decode cX4_cut 208 = .ok (.getfield 32, 3) := dk_180 0 32 (dk_at dksX4_cut_8 20 rfl rfl)
theorem dX4_cut_211 : decode cX4_cut 211 = .ok (.iload 8, 2) := dk_21 8 (dk_at dksX4_cut_9 0 rfl rfl)
theorem dX4_cut_213 : decode cX4_cut 213 = .ok (.iload 9, 2) := dk_21 9 (dk_at dksX4_cut_9 2 rfl rfl)
theorem dX4_cut_215 : decode cX4_cut 215 = .ok (.iastore, 1) := dk_79 (dk_at dksX4_cut_9 4 rfl rfl)
theorem dX4_cut_216 : decode cX4_cut 216 = .ok (.aload_n 0, 1) := dk_42 (dk_at dksX4_cut_9 5 rfl rfl)
theorem dX4_cut_217 : decode cX4_cut 217 = .ok (.getfield 50, 3) := dk_180 0 50 (dk_at dksX4_cut_9 6 rfl rfl)
theorem dX4_cut_220 : decode cX4_cut 220 = .ok (.iload 8, 2) := dk_21 8 (dk_at dksX4_cut_9 9 rfl rfl)
theorem dX4_cut_222 : decode cX4_cut 222 = .ok (.iconst 1, 1) := dk_4 (dk_at dksX4_cut_9 11 rfl rfl)
theorem dX4_cut_223 : decode cX4_cut 223 = .ok (.bastore, 1) := dk_84 (dk_at dksX4_cut_9 12 rfl rfl)
theorem dX4_cut_224 : decode cX4_cut 224 = .ok (.aload_n 0, 1) := dk_42 (dk_at dksX4_cut_9 13 rfl rfl)
theorem dX4_cut_225 : decode cX4_cut 225 = .ok (.getfield 177, 3) := dk_180 0 177 (dk_at dksX4_cut_9 14 rfl rfl)
theorem dX4_cut_228 : decode cX4_cut 228 = .ok (.bipush 12, 2) := dk_16 12 (dk_at dksX4_cut_9 17 rfl rfl)
theorem dX4_cut_230 : decode cX4_cut 230 = .ok (.iload 5, 2) := dk_21 5 (dk_at dksX4_cut_9 19 rfl rfl)
theorem dX4_cut_232 : decode cX4_cut 232 = .ok (.imul, 1) := dk_104 (dk_at dksX4_cut_9 21 rfl rfl)
theorem dX4_cut_233 : decode cX4_cut 233 = .ok (.iload 8, 2) := dk_21 8 (dk_at dksX4_cut_9 22 rfl rfl)
theorem dX4_cut_235 : decode cX4_cut 235 = .ok (.iadd, 1) := dk_96 (dk_at dksX4_cut_10 0 rfl rfl)
theorem dX4_cut_236 : decode cX4_cut 236 = .ok (.iload 10, 2) := dk_21 10 (dk_at dksX4_cut_10 1 rfl rfl)
theorem dX4_cut_238 : decode cX4_cut 238 = .ok (.iastore, 1) := dk_79 (dk_at dksX4_cut_10 3 rfl rfl)
theorem dX4_cut_239 : decode cX4_cut 239 = .ok (.aload_n 0, 1) := dk_42 (dk_at dksX4_cut_10 4 rfl rfl)
theorem dX4_cut_240 : decode cX4_cut 240 = .ok (.getfield 180, 3) := dk_180 0 180 (dk_at dksX4_cut_10 5 rfl rfl)
theorem dX4_cut_243 : decode cX4_cut 243 = .ok (.iload 5, 2) := dk_21 5 (dk_at dksX4_cut_10 8 rfl rfl)
theorem dX4_cut_245 : decode cX4_cut 245 = .ok (.dup2, 1) := dk_92 (dk_at dksX4_cut_10 10 rfl rfl)
theorem dX4_cut_246 : decode cX4_cut 246 = .ok (.iaload, 1) := dk_46 (dk_at dksX4_cut_10 11 rfl rfl)
theorem dX4_cut_247 : decode cX4_cut 247 = .ok (.iconst 1, 1) := dk_4 (dk_at dksX4_cut_10 12 rfl rfl)
theorem dX4_cut_248 : decode cX4_cut 248 = .ok (.iload 8, 2) := dk_21 8 (dk_at dksX4_cut_10 13 rfl rfl)
theorem dX4_cut_250 : decode cX4_cut 250 = .ok (.ishl, 1) := dk_120 (dk_at dksX4_cut_10 15 rfl rfl)
theorem dX4_cut_251 : decode cX4_cut 251 = .ok (.ior, 1) := dk_128 (dk_at dksX4_cut_10 16 rfl rfl)
theorem dX4_cut_252 : decode cX4_cut 252 = .ok (.iastore, 1) := dk_79 (dk_at dksX4_cut_10 17 rfl rfl)
theorem dX4_cut_253 : decode cX4_cut 253 = .ok (.iinc 7 1, 3) := dk_132 7 1 (dk_at dksX4_cut_10 18 rfl rfl)
theorem dX4_cut_256 : decode cX4_cut 256 = .ok (.goto (-147), 3) := dk_167 255 109 (dk_at dksX4_cut_10 21 rfl rfl)
theorem dX4_cut_259 : decode cX4_cut 259 = .ok (.bipush 10, 2) := dk_16 10 (dk_at dksX4_cut_11 0 rfl rfl)
theorem dX4_cut_261 : decode cX4_cut 261 = .ok (.iload 6, 2) := dk_21 6 (dk_at dksX4_cut_11 2 rfl rfl)
theorem dX4_cut_263 : decode cX4_cut 263 = .ok (.imul, 1) := dk_104 (dk_at dksX4_cut_11 4 rfl rfl)
theorem dX4_cut_264 : decode cX4_cut 264 = .ok (.aload_n 0, 1) := dk_42 (dk_at dksX4_cut_11 5 rfl rfl)
theorem dX4_cut_265 : decode cX4_cut 265 = .ok (.getfield 481, 3) := dk_180 1 225 (dk_at dksX4_cut_11 6 rfl rfl)
theorem dX4_cut_268 : decode cX4_cut 268 = .ok (.idiv, 1) := dk_108 (dk_at dksX4_cut_11 9 rfl rfl)
theorem dX4_cut_269 : decode cX4_cut 269 = .ok (.iconst 5, 1) := dk_8 (dk_at dksX4_cut_11 10 rfl rfl)
theorem dX4_cut_270 : decode cX4_cut 270 = .ok (.isub, 1) := dk_100 (dk_at dksX4_cut_11 11 rfl rfl)
theorem dX4_cut_271 : decode cX4_cut 271 = .ok (.istore 7, 2) := dk_54 7 (dk_at dksX4_cut_11 12 rfl rfl)
theorem dX4_cut_273 : decode cX4_cut 273 = .ok (.bipush 10, 2) := dk_16 10 (dk_at dksX4_cut_11 14 rfl rfl)
theorem dX4_cut_275 : decode cX4_cut 275 = .ok (.iload 6, 2) := dk_21 6 (dk_at dksX4_cut_11 16 rfl rfl)
theorem dX4_cut_277 : decode cX4_cut 277 = .ok (.imul, 1) := dk_104 (dk_at dksX4_cut_11 18 rfl rfl)
theorem dX4_cut_278 : decode cX4_cut 278 = .ok (.aload_n 0, 1) := dk_42 (dk_at dksX4_cut_11 19 rfl rfl)
theorem dX4_cut_279 : decode cX4_cut 279 = .ok (.getfield 481, 3) := dk_180 1 225 (dk_at dksX4_cut_11 20 rfl rfl)
theorem dX4_cut_282 : decode cX4_cut 282 = .ok (.iadd, 1) := dk_96 (dk_at dksX4_cut_11 23 rfl rfl)
theorem dX4_cut_283 : decode cX4_cut 283 = .ok (.iconst 1, 1) := dk_4 (dk_at dksX4_cut_12 0 rfl rfl)
theorem dX4_cut_284 : decode cX4_cut 284 = .ok (.isub, 1) := dk_100 (dk_at dksX4_cut_12 1 rfl rfl)
theorem dX4_cut_285 : decode cX4_cut 285 = .ok (.aload_n 0, 1) := dk_42 (dk_at dksX4_cut_12 2 rfl rfl)
theorem dX4_cut_286 : decode cX4_cut 286 = .ok (.getfield 481, 3) := dk_180 1 225 (dk_at dksX4_cut_12 3 rfl rfl)
theorem dX4_cut_289 : decode cX4_cut 289 = .ok (.idiv, 1) := dk_108 (dk_at dksX4_cut_12 6 rfl rfl)
theorem dX4_cut_290 : decode cX4_cut 290 = .ok (.iconst 5, 1) := dk_8 (dk_at dksX4_cut_12 7 rfl rfl)
theorem dX4_cut_291 : decode cX4_cut 291 = .ok (.iadd, 1) := dk_96 (dk_at dksX4_cut_12 8 rfl rfl)
theorem dX4_cut_292 : decode cX4_cut 292 = .ok (.istore 8, 2) := dk_54 8 (dk_at dksX4_cut_12 9 rfl rfl)
theorem dX4_cut_294 : decode cX4_cut 294 = .ok (.aload_n 0, 1) := dk_42 (dk_at dksX4_cut_12 11 rfl rfl)
theorem dX4_cut_295 : decode cX4_cut 295 = .ok (.getfield 156, 3) := dk_180 0 156 (dk_at dksX4_cut_12 12 rfl rfl)
theorem dX4_cut_298 : decode cX4_cut 298 = .ok (.iload 5, 2) := dk_21 5 (dk_at dksX4_cut_12 15 rfl rfl)
theorem dX4_cut_300 : decode cX4_cut 300 = .ok (.iload 7, 2) := dk_21 7 (dk_at dksX4_cut_12 17 rfl rfl)
theorem dX4_cut_302 : decode cX4_cut 302 = .ok (.ifCond .ge 7, 3) := dk_156 0 7 (dk_at dksX4_cut_12 19 rfl rfl)
theorem dX4_cut_305 : decode cX4_cut 305 = .ok (.iconst 0, 1) := dk_3 (dk_at dksX4_cut_12 22 rfl rfl)
theorem dX4_cut_306 : decode cX4_cut 306 = .ok (.goto 17, 3) := dk_167 0 17 (dk_at dksX4_cut_13 0 rfl rfl)
theorem dX4_cut_309 : decode cX4_cut 309 = .ok (.iload 7, 2) := dk_21 7 (dk_at dksX4_cut_13 3 rfl rfl)
theorem dX4_cut_311 : decode cX4_cut 311 = .ok (.bipush 90, 2) := dk_16 90 (dk_at dksX4_cut_13 5 rfl rfl)
theorem dX4_cut_313 : decode cX4_cut 313 = .ok (.if_icmp .le 8, 3) := dk_164 0 8 (dk_at dksX4_cut_13 7 rfl rfl)
theorem dX4_cut_316 : decode cX4_cut 316 = .ok (.bipush 90, 2) := dk_16 90 (dk_at dksX4_cut_13 10 rfl rfl)
theorem dX4_cut_318 : decode cX4_cut 318 = .ok (.goto 5, 3) := dk_167 0 5 (dk_at dksX4_cut_13 12 rfl rfl)
theorem dX4_cut_321 : decode cX4_cut 321 = .ok (.iload 7, 2) := dk_21 7 (dk_at dksX4_cut_13 15 rfl rfl)
theorem dX4_cut_323 : decode cX4_cut 323 = .ok (.iastore, 1) := dk_79 (dk_at dksX4_cut_13 17 rfl rfl)
theorem dX4_cut_324 : decode cX4_cut 324 = .ok (.aload_n 0, 1) := dk_42 (dk_at dksX4_cut_13 18 rfl rfl)
theorem dX4_cut_325 : decode cX4_cut 325 = .ok (.getfield 159, 3) := dk_180 0 159 (dk_at dksX4_cut_13 19 rfl rfl)
theorem dX4_cut_328 : decode cX4_cut 328 = .ok (.iload 5, 2) := dk_21 5 (dk_at dksX4_cut_13 22 rfl rfl)
theorem dX4_cut_330 : decode cX4_cut 330 = .ok (.iload 8, 2) := dk_21 8 (dk_at dksX4_cut_14 0 rfl rfl)
theorem dX4_cut_332 : decode cX4_cut 332 = .ok (.bipush 90, 2) := dk_16 90 (dk_at dksX4_cut_14 2 rfl rfl)
theorem dX4_cut_334 : decode cX4_cut 334 = .ok (.if_icmp .le 8, 3) := dk_164 0 8 (dk_at dksX4_cut_14 4 rfl rfl)
theorem dX4_cut_337 : decode cX4_cut 337 = .ok (.bipush 90, 2) := dk_16 90 (dk_at dksX4_cut_14 7 rfl rfl)
theorem dX4_cut_339 : decode cX4_cut 339 = .ok (.goto 5, 3) := dk_167 0 5 (dk_at dksX4_cut_14 9 rfl rfl)
theorem dX4_cut_342 : decode cX4_cut 342 = .ok (.iload 8, 2) := dk_21 8 (dk_at dksX4_cut_14 12 rfl rfl)
theorem dX4_cut_344 : decode cX4_cut 344 = .ok (.iastore, 1) := dk_79 (dk_at dksX4_cut_14 14 rfl rfl)
theorem dX4_cut_345 : decode cX4_cut 345 = .ok (.aload_n 0, 1) := dk_42 (dk_at dksX4_cut_14 15 rfl rfl)
theorem dX4_cut_346 : decode cX4_cut 346 = .ok (.getfield 162, 3) := dk_180 0 162 (dk_at dksX4_cut_14 16 rfl rfl)
theorem dX4_cut_349 : decode cX4_cut 349 = .ok (.iload 5, 2) := dk_21 5 (dk_at dksX4_cut_14 19 rfl rfl)
theorem dX4_cut_351 : decode cX4_cut 351 = .ok (.iload_n 3, 1) := dk_29 (dk_at dksX4_cut_14 21 rfl rfl)
theorem dX4_cut_352 : decode cX4_cut 352 = .ok (.iastore, 1) := dk_79 (dk_at dksX4_cut_14 22 rfl rfl)
theorem dX4_cut_353 : decode cX4_cut 353 = .ok (.aload_n 0, 1) := dk_42 (dk_at dksX4_cut_14 23 rfl rfl)
theorem dX4_cut_354 : decode cX4_cut 354 = .ok (.getfield 165, 3) := dk_180 0 165 (dk_at dksX4_cut_15 0 rfl rfl)
theorem dX4_cut_357 : decode cX4_cut 357 = .ok (.iload 5, 2) := dk_21 5 (dk_at dksX4_cut_15 3 rfl rfl)
theorem dX4_cut_359 : decode cX4_cut 359 = .ok (.iload 4, 2) := dk_21 4 (dk_at dksX4_cut_15 5 rfl rfl)
theorem dX4_cut_361 : decode cX4_cut 361 = .ok (.iastore, 1) := dk_79 (dk_at dksX4_cut_15 7 rfl rfl)
theorem dX4_cut_362 : decode cX4_cut 362 = .ok (.aload_n 0, 1) := dk_42 (dk_at dksX4_cut_15 8 rfl rfl)
theorem dX4_cut_363 : decode cX4_cut 363 = .ok (.getfield 171, 3) := dk_180 0 171 (dk_at dksX4_cut_15 9 rfl rfl)
theorem dX4_cut_366 : decode cX4_cut 366 = .ok (.iload 5, 2) := dk_21 5 (dk_at dksX4_cut_15 12 rfl rfl)
theorem dX4_cut_368 : decode cX4_cut 368 = .ok (.iconst (-1), 1) := dk_2 (dk_at dksX4_cut_15 14 rfl rfl)
theorem dX4_cut_369 : decode cX4_cut 369 = .ok (.iastore, 1) := dk_79 (dk_at dksX4_cut_15 15 rfl rfl)
theorem dX4_cut_370 : decode cX4_cut 370 = .ok (.aload_n 0, 1) := dk_42 (dk_at dksX4_cut_15 16 rfl rfl)
theorem dX4_cut_371 : decode cX4_cut 371 = .ok (.getfield 174, 3) := dk_180 0 174 (dk_at dksX4_cut_15 17 rfl rfl)
theorem dX4_cut_374 : decode cX4_cut 374 = .ok (.iload 5, 2) := dk_21 5 (dk_at dksX4_cut_15 20 rfl rfl)
theorem dX4_cut_376 : decode cX4_cut 376 = .ok (.iconst (-1), 1) := dk_2 (dk_at dksX4_cut_15 22 rfl rfl)
theorem dX4_cut_377 : decode cX4_cut 377 = .ok (.iastore, 1) := dk_79 (dk_at dksX4_cut_15 23 rfl rfl)
theorem dX4_cut_378 : decode cX4_cut 378 = .ok (.aload_n 0, 1) := dk_42 (dk_at dksX4_cut_16 0 rfl rfl)
theorem dX4_cut_379 : decode cX4_cut 379 = .ok (.dup, 1) := dk_89 (dk_at dksX4_cut_16 1 rfl rfl)
theorem dX4_cut_380 : decode cX4_cut 380 = .ok (.getfield 294, 3) := dk_180 1 38 (dk_at dksX4_cut_16 2 rfl rfl)
theorem dX4_cut_383 : decode cX4_cut 383 = .ok (.aload_n 0, 1) := dk_42 (dk_at dksX4_cut_16 5 rfl rfl)
theorem dX4_cut_384 : decode cX4_cut 384 = .ok (.getfield 481, 3) := dk_180 1 225 (dk_at dksX4_cut_16 6 rfl rfl)
theorem dX4_cut_387 : decode cX4_cut 387 = .ok (.iadd, 1) := dk_96 (dk_at dksX4_cut_16 9 rfl rfl)
theorem dX4_cut_388 : decode cX4_cut 388 = .ok (.putfield 294, 3) := dk_181 1 38 (dk_at dksX4_cut_16 10 rfl rfl)
theorem dX4_cut_391 : decode cX4_cut 391 = .ok (.aload_n 0, 1) := dk_42 (dk_at dksX4_cut_16 13 rfl rfl)
theorem dX4_cut_392 : decode cX4_cut 392 = .ok (.getfield 144, 3) := dk_180 0 144 (dk_at dksX4_cut_16 14 rfl rfl)
theorem dX4_cut_395 : decode cX4_cut 395 = .ok (.iload 4, 2) := dk_21 4 (dk_at dksX4_cut_16 17 rfl rfl)
theorem dX4_cut_397 : decode cX4_cut 397 = .ok (.dup2, 1) := dk_92 (dk_at dksX4_cut_16 19 rfl rfl)
theorem dX4_cut_398 : decode cX4_cut 398 = .ok (.iaload, 1) := dk_46 (dk_at dksX4_cut_16 20 rfl rfl)
theorem dX4_cut_399 : decode cX4_cut 399 = .ok (.iconst 1, 1) := dk_4 (dk_at dksX4_cut_16 21 rfl rfl)
theorem dX4_cut_400 : decode cX4_cut 400 = .ok (.iadd, 1) := dk_96 (dk_at dksX4_cut_16 22 rfl rfl)
theorem dX4_cut_401 : decode cX4_cut 401 = .ok (.iastore, 1) := dk_79 (dk_at dksX4_cut_16 23 rfl rfl)
theorem dX4_cut_402 : decode cX4_cut 402 = .ok (.iload 5, 2) := dk_21 5 (dk_at dksX4_cut_17 0 rfl rfl)
theorem dX4_cut_404 : decode cX4_cut 404 = .ok (.ireturn, 1) := dk_172 (dk_at dksX4_cut_17 2 rfl rfl)
abbrev cX4_comes : ByteArray := prog_23_method_72_code
def yX4_comes : MethodName := ⟨RX4, "comes", "(III)I"⟩
def dkwX4_comes_4 : List UInt8 := [21, 4, 104, 21, 5, 96, 3, 79, 132, 5, 1, 167, 255, 232, 21, 4, 172]
abbrev dktX4_comes_4 : List UInt8 := dkwX4_comes_4 ++ []
def dkwX4_comes_3 : List UInt8 := [180, 0, 183, 21, 4, 4, 84, 3, 54, 5, 21, 5, 16, 12, 162, 0, 23, 42, 180, 0, 177, 16, 12]
abbrev dktX4_comes_3 : List UInt8 := dkwX4_comes_3 ++ dktX4_comes_4
def dkwX4_comes_2 : List UInt8 := [16, 90, 164, 0, 8, 16, 90, 167, 0, 4, 29, 79, 42, 180, 0, 168, 21, 4, 42, 180, 0, 234, 79, 42]
abbrev dktX4_comes_2 : List UInt8 := dkwX4_comes_2 ++ dktX4_comes_3
def dkwX4_comes_1 : List UInt8 := [42, 180, 0, 156, 21, 4, 28, 156, 0, 7, 3, 167, 0, 4, 28, 79, 42, 180, 0, 159, 21, 4, 29]
abbrev dktX4_comes_1 : List UInt8 := dkwX4_comes_1 ++ dktX4_comes_2
def dkwX4_comes_0 : List UInt8 := [42, 180, 1, 32, 54, 4, 42, 89, 180, 1, 32, 4, 96, 181, 1, 32, 42, 180, 0, 153, 21, 4, 27, 79]
abbrev dktX4_comes_0 : List UInt8 := dkwX4_comes_0 ++ dktX4_comes_1
theorem dksX4_comes_0 : cX4_comes.data.toList.drop 0 = dktX4_comes_0 := by decide +kernel
theorem dksX4_comes_1 : cX4_comes.data.toList.drop 24 = dktX4_comes_1 := dk_seg dksX4_comes_0 24 rfl rfl
theorem dksX4_comes_2 : cX4_comes.data.toList.drop 47 = dktX4_comes_2 := dk_seg dksX4_comes_1 23 rfl rfl
theorem dksX4_comes_3 : cX4_comes.data.toList.drop 71 = dktX4_comes_3 := dk_seg dksX4_comes_2 24 rfl rfl
theorem dksX4_comes_4 : cX4_comes.data.toList.drop 94 = dktX4_comes_4 := dk_seg dksX4_comes_3 23 rfl rfl
theorem dX4_comes_0 : decode cX4_comes 0 = .ok (.aload_n 0, 1) := dk_42 (dk_at dksX4_comes_0 0 rfl rfl)
theorem dX4_comes_1 : decode cX4_comes 1 = .ok (.getfield 288, 3) := dk_180 1 32 (dk_at dksX4_comes_0 1 rfl rfl)
theorem dX4_comes_4 : decode cX4_comes 4 = .ok (.istore 4, 2) := dk_54 4 (dk_at dksX4_comes_0 4 rfl rfl)
theorem dX4_comes_6 : decode cX4_comes 6 = .ok (.aload_n 0, 1) := dk_42 (dk_at dksX4_comes_0 6 rfl rfl)
theorem dX4_comes_7 : decode cX4_comes 7 = .ok (.dup, 1) := dk_89 (dk_at dksX4_comes_0 7 rfl rfl)
theorem dX4_comes_8 : decode cX4_comes 8 = .ok (.getfield 288, 3) := dk_180 1 32 (dk_at dksX4_comes_0 8 rfl rfl)
theorem dX4_comes_11 : decode cX4_comes 11 = .ok (.iconst 1, 1) := dk_4 (dk_at dksX4_comes_0 11 rfl rfl)
theorem dX4_comes_12 : decode cX4_comes 12 = .ok (.iadd, 1) := dk_96 (dk_at dksX4_comes_0 12 rfl rfl)
theorem dX4_comes_13 : decode cX4_comes 13 = .ok (.putfield 288, 3) := dk_181 1 32 (dk_at dksX4_comes_0 13 rfl rfl)
theorem dX4_comes_16 : decode cX4_comes 16 = .ok (.aload_n 0, 1) := dk_42 (dk_at dksX4_comes_0 16 rfl rfl)
theorem dX4_comes_17 : decode cX4_comes 17 = .ok (.getfield 153, 3) := dk_180 0 153 (dk_at dksX4_comes_0 17 rfl rfl)
theorem dX4_comes_20 : decode cX4_comes 20 = .ok (.iload 4, 2) := dk_21 4 (dk_at dksX4_comes_0 20 rfl rfl)
theorem dX4_comes_22 : decode cX4_comes 22 = .ok (.iload_n 1, 1) := dk_27 (dk_at dksX4_comes_0 22 rfl rfl)
theorem dX4_comes_23 : decode cX4_comes 23 = .ok (.iastore, 1) := dk_79 (dk_at dksX4_comes_0 23 rfl rfl)
theorem dX4_comes_24 : decode cX4_comes 24 = .ok (.aload_n 0, 1) := dk_42 (dk_at dksX4_comes_1 0 rfl rfl)
theorem dX4_comes_25 : decode cX4_comes 25 = .ok (.getfield 156, 3) := dk_180 0 156 (dk_at dksX4_comes_1 1 rfl rfl)
theorem dX4_comes_28 : decode cX4_comes 28 = .ok (.iload 4, 2) := dk_21 4 (dk_at dksX4_comes_1 4 rfl rfl)
theorem dX4_comes_30 : decode cX4_comes 30 = .ok (.iload_n 2, 1) := dk_28 (dk_at dksX4_comes_1 6 rfl rfl)
theorem dX4_comes_31 : decode cX4_comes 31 = .ok (.ifCond .ge 7, 3) := dk_156 0 7 (dk_at dksX4_comes_1 7 rfl rfl)
theorem dX4_comes_34 : decode cX4_comes 34 = .ok (.iconst 0, 1) := dk_3 (dk_at dksX4_comes_1 10 rfl rfl)
theorem dX4_comes_35 : decode cX4_comes 35 = .ok (.goto 4, 3) := dk_167 0 4 (dk_at dksX4_comes_1 11 rfl rfl)
theorem dX4_comes_38 : decode cX4_comes 38 = .ok (.iload_n 2, 1) := dk_28 (dk_at dksX4_comes_1 14 rfl rfl)
theorem dX4_comes_39 : decode cX4_comes 39 = .ok (.iastore, 1) := dk_79 (dk_at dksX4_comes_1 15 rfl rfl)
theorem dX4_comes_40 : decode cX4_comes 40 = .ok (.aload_n 0, 1) := dk_42 (dk_at dksX4_comes_1 16 rfl rfl)
theorem dX4_comes_41 : decode cX4_comes 41 = .ok (.getfield 159, 3) := dk_180 0 159 (dk_at dksX4_comes_1 17 rfl rfl)
theorem dX4_comes_44 : decode cX4_comes 44 = .ok (.iload 4, 2) := dk_21 4 (dk_at dksX4_comes_1 20 rfl rfl)
theorem dX4_comes_46 : decode cX4_comes 46 = .ok (.iload_n 3, 1) := dk_29 (dk_at dksX4_comes_1 22 rfl rfl)
theorem dX4_comes_47 : decode cX4_comes 47 = .ok (.bipush 90, 2) := dk_16 90 (dk_at dksX4_comes_2 0 rfl rfl)
theorem dX4_comes_49 : decode cX4_comes 49 = .ok (.if_icmp .le 8, 3) := dk_164 0 8 (dk_at dksX4_comes_2 2 rfl rfl)
theorem dX4_comes_52 : decode cX4_comes 52 = .ok (.bipush 90, 2) := dk_16 90 (dk_at dksX4_comes_2 5 rfl rfl)
theorem dX4_comes_54 : decode cX4_comes 54 = .ok (.goto 4, 3) := dk_167 0 4 (dk_at dksX4_comes_2 7 rfl rfl)
theorem dX4_comes_57 : decode cX4_comes 57 = .ok (.iload_n 3, 1) := dk_29 (dk_at dksX4_comes_2 10 rfl rfl)
theorem dX4_comes_58 : decode cX4_comes 58 = .ok (.iastore, 1) := dk_79 (dk_at dksX4_comes_2 11 rfl rfl)
theorem dX4_comes_59 : decode cX4_comes 59 = .ok (.aload_n 0, 1) := dk_42 (dk_at dksX4_comes_2 12 rfl rfl)
theorem dX4_comes_60 : decode cX4_comes 60 = .ok (.getfield 168, 3) := dk_180 0 168 (dk_at dksX4_comes_2 13 rfl rfl)
theorem dX4_comes_63 : decode cX4_comes 63 = .ok (.iload 4, 2) := dk_21 4 (dk_at dksX4_comes_2 16 rfl rfl)
theorem dX4_comes_65 : decode cX4_comes 65 = .ok (.aload_n 0, 1) := dk_42 (dk_at dksX4_comes_2 18 rfl rfl)
theorem dX4_comes_66 : decode cX4_comes 66 = .ok (.getfield 234, 3) := dk_180 0 234 (dk_at dksX4_comes_2 19 rfl rfl)
theorem dX4_comes_69 : decode cX4_comes 69 = .ok (.iastore, 1) := dk_79 (dk_at dksX4_comes_2 22 rfl rfl)
theorem dX4_comes_70 : decode cX4_comes 70 = .ok (.aload_n 0, 1) := dk_42 (dk_at dksX4_comes_2 23 rfl rfl)
theorem dX4_comes_71 : decode cX4_comes 71 = .ok (.getfield 183, 3) := dk_180 0 183 (dk_at dksX4_comes_3 0 rfl rfl)
theorem dX4_comes_74 : decode cX4_comes 74 = .ok (.iload 4, 2) := dk_21 4 (dk_at dksX4_comes_3 3 rfl rfl)
theorem dX4_comes_76 : decode cX4_comes 76 = .ok (.iconst 1, 1) := dk_4 (dk_at dksX4_comes_3 5 rfl rfl)
theorem dX4_comes_77 : decode cX4_comes 77 = .ok (.bastore, 1) := dk_84 (dk_at dksX4_comes_3 6 rfl rfl)
theorem dX4_comes_78 : decode cX4_comes 78 = .ok (.iconst 0, 1) := dk_3 (dk_at dksX4_comes_3 7 rfl rfl)
theorem dX4_comes_79 : decode cX4_comes 79 = .ok (.istore 5, 2) := dk_54 5 (dk_at dksX4_comes_3 8 rfl rfl)
theorem dX4_comes_81 : decode cX4_comes 81 = .ok (.iload 5, 2) := dk_21 5 (dk_at dksX4_comes_3 10 rfl rfl)
theorem dX4_comes_83 : decode cX4_comes 83 = .ok (.bipush 12, 2) := dk_16 12 (dk_at dksX4_comes_3 12 rfl rfl)
theorem dX4_comes_85 : decode cX4_comes 85 = .ok (.if_icmp .ge 23, 3) := dk_162 0 23 (dk_at dksX4_comes_3 14 rfl rfl)
theorem dX4_comes_88 : decode cX4_comes 88 = .ok (.aload_n 0, 1) := dk_42 (dk_at dksX4_comes_3 17 rfl rfl)
theorem dX4_comes_89 : decode cX4_comes 89 = .ok (.getfield 177, 3) := dk_180 0 177 (dk_at dksX4_comes_3 18 rfl rfl)
theorem dX4_comes_92 : decode cX4_comes 92 = .ok (.bipush 12, 2) := dk_16 12 (dk_at dksX4_comes_3 21 rfl rfl)
theorem dX4_comes_94 : decode cX4_comes 94 = .ok (.iload 4, 2) := dk_21 4 (dk_at dksX4_comes_4 0 rfl rfl)
theorem dX4_comes_96 : decode cX4_comes 96 = .ok (.imul, 1) := dk_104 (dk_at dksX4_comes_4 2 rfl rfl)
theorem dX4_comes_97 : decode cX4_comes 97 = .ok (.iload 5, 2) := dk_21 5 (dk_at dksX4_comes_4 3 rfl rfl)
theorem dX4_comes_99 : decode cX4_comes 99 = .ok (.iadd, 1) := dk_96 (dk_at dksX4_comes_4 5 rfl rfl)
theorem dX4_comes_100 : decode cX4_comes 100 = .ok (.iconst 0, 1) := dk_3 (dk_at dksX4_comes_4 6 rfl rfl)
theorem dX4_comes_101 : decode cX4_comes 101 = .ok (.iastore, 1) := dk_79 (dk_at dksX4_comes_4 7 rfl rfl)
theorem dX4_comes_102 : decode cX4_comes 102 = .ok (.iinc 5 1, 3) := dk_132 5 1 (dk_at dksX4_comes_4 8 rfl rfl)
theorem dX4_comes_105 : decode cX4_comes 105 = .ok (.goto (-24), 3) := dk_167 255 232 (dk_at dksX4_comes_4 11 rfl rfl)
theorem dX4_comes_108 : decode cX4_comes 108 = .ok (.iload 4, 2) := dk_21 4 (dk_at dksX4_comes_4 14 rfl rfl)
theorem dX4_comes_110 : decode cX4_comes 110 = .ok (.ireturn, 1) := dk_172 (dk_at dksX4_comes_4 16 rfl rfl)
abbrev cX4_lot : ByteArray := prog_23_method_75_code
def yX4_lot : MethodName := ⟨RX4, "lot", "(II)I"⟩
def dkwX4_lot_4 : List UInt8 := [180, 0, 165, 27, 46, 172, 42, 180, 0, 180, 27, 46, 172, 42, 180, 0, 168, 27, 46, 172, 2, 172]
abbrev dktX4_lot_4 : List UInt8 := dkwX4_lot_4 ++ []
def dkwX4_lot_3 : List UInt8 := [180, 0, 183, 27, 51, 153, 0, 7, 4, 167, 0, 4, 3, 172, 42, 180, 0, 162, 27, 46, 172, 42]
abbrev dktX4_lot_3 : List UInt8 := dkwX4_lot_3 ++ dktX4_lot_4
def dkwX4_lot_2 : List UInt8 := [42, 180, 0, 153, 27, 46, 172, 42, 180, 0, 156, 27, 46, 172, 42, 180, 0, 159, 27, 46, 172, 42]
abbrev dktX4_lot_2 : List UInt8 := dkwX4_lot_2 ++ dktX4_lot_3
def dkwX4_lot_1 : List UInt8 := [170, 0, 0, 0, 0, 0, 111, 0, 0, 0, 0, 0, 0, 0, 7, 0, 0, 0, 47, 0, 0, 0, 54, 0, 0, 0, 61, 0, 0, 0, 68, 0, 0, 0, 83, 0, 0, 0, 90, 0, 0, 0, 97, 0, 0, 0, 104]
abbrev dktX4_lot_1 : List UInt8 := dkwX4_lot_1 ++ dktX4_lot_2
def dkwX4_lot_0 : List UInt8 := [27, 3, 42, 180, 1, 32, 4, 100, 184, 0, 244, 154, 0, 5, 2, 172, 28]
abbrev dktX4_lot_0 : List UInt8 := dkwX4_lot_0 ++ dktX4_lot_1
theorem dksX4_lot_0 : cX4_lot.data.toList.drop 0 = dktX4_lot_0 := by decide +kernel
theorem dksX4_lot_1 : cX4_lot.data.toList.drop 17 = dktX4_lot_1 := dk_seg dksX4_lot_0 17 rfl rfl
theorem dksX4_lot_2 : cX4_lot.data.toList.drop 64 = dktX4_lot_2 := dk_seg dksX4_lot_1 47 rfl rfl
theorem dksX4_lot_3 : cX4_lot.data.toList.drop 86 = dktX4_lot_3 := dk_seg dksX4_lot_2 22 rfl rfl
theorem dksX4_lot_4 : cX4_lot.data.toList.drop 108 = dktX4_lot_4 := dk_seg dksX4_lot_3 22 rfl rfl
theorem dX4_lot_0 : decode cX4_lot 0 = .ok (.iload_n 1, 1) := dk_27 (dk_at dksX4_lot_0 0 rfl rfl)
theorem dX4_lot_1 : decode cX4_lot 1 = .ok (.iconst 0, 1) := dk_3 (dk_at dksX4_lot_0 1 rfl rfl)
theorem dX4_lot_2 : decode cX4_lot 2 = .ok (.aload_n 0, 1) := dk_42 (dk_at dksX4_lot_0 2 rfl rfl)
theorem dX4_lot_3 : decode cX4_lot 3 = .ok (.getfield 288, 3) := dk_180 1 32 (dk_at dksX4_lot_0 3 rfl rfl)
theorem dX4_lot_6 : decode cX4_lot 6 = .ok (.iconst 1, 1) := dk_4 (dk_at dksX4_lot_0 6 rfl rfl)
theorem dX4_lot_7 : decode cX4_lot 7 = .ok (.isub, 1) := dk_100 (dk_at dksX4_lot_0 7 rfl rfl)
theorem dX4_lot_8 : decode cX4_lot 8 = .ok (.invokestatic 244, 3) := dk_184 0 244 (dk_at dksX4_lot_0 8 rfl rfl)
theorem dX4_lot_11 : decode cX4_lot 11 = .ok (.ifCond .ne 5, 3) := dk_154 0 5 (dk_at dksX4_lot_0 11 rfl rfl)
theorem dX4_lot_14 : decode cX4_lot 14 = .ok (.iconst (-1), 1) := dk_2 (dk_at dksX4_lot_0 14 rfl rfl)
theorem dX4_lot_15 : decode cX4_lot 15 = .ok (.ireturn, 1) := dk_172 (dk_at dksX4_lot_0 15 rfl rfl)
theorem dX4_lot_16 : decode cX4_lot 16 = .ok (.iload_n 2, 1) := dk_28 (dk_at dksX4_lot_0 16 rfl rfl)
theorem dX4_lot_17 : decode cX4_lot 17 = .ok (.tableswitch 111 0 7 #[47, 54, 61, 68, 83, 90, 97, 104], 47) := by decide +kernel
theorem dX4_lot_64 : decode cX4_lot 64 = .ok (.aload_n 0, 1) := dk_42 (dk_at dksX4_lot_2 0 rfl rfl)
theorem dX4_lot_65 : decode cX4_lot 65 = .ok (.getfield 153, 3) := dk_180 0 153 (dk_at dksX4_lot_2 1 rfl rfl)
theorem dX4_lot_68 : decode cX4_lot 68 = .ok (.iload_n 1, 1) := dk_27 (dk_at dksX4_lot_2 4 rfl rfl)
theorem dX4_lot_69 : decode cX4_lot 69 = .ok (.iaload, 1) := dk_46 (dk_at dksX4_lot_2 5 rfl rfl)
theorem dX4_lot_70 : decode cX4_lot 70 = .ok (.ireturn, 1) := dk_172 (dk_at dksX4_lot_2 6 rfl rfl)
theorem dX4_lot_71 : decode cX4_lot 71 = .ok (.aload_n 0, 1) := dk_42 (dk_at dksX4_lot_2 7 rfl rfl)
theorem dX4_lot_72 : decode cX4_lot 72 = .ok (.getfield 156, 3) := dk_180 0 156 (dk_at dksX4_lot_2 8 rfl rfl)
theorem dX4_lot_75 : decode cX4_lot 75 = .ok (.iload_n 1, 1) := dk_27 (dk_at dksX4_lot_2 11 rfl rfl)
theorem dX4_lot_76 : decode cX4_lot 76 = .ok (.iaload, 1) := dk_46 (dk_at dksX4_lot_2 12 rfl rfl)
theorem dX4_lot_77 : decode cX4_lot 77 = .ok (.ireturn, 1) := dk_172 (dk_at dksX4_lot_2 13 rfl rfl)
theorem dX4_lot_78 : decode cX4_lot 78 = .ok (.aload_n 0, 1) := dk_42 (dk_at dksX4_lot_2 14 rfl rfl)
theorem dX4_lot_79 : decode cX4_lot 79 = .ok (.getfield 159, 3) := dk_180 0 159 (dk_at dksX4_lot_2 15 rfl rfl)
theorem dX4_lot_82 : decode cX4_lot 82 = .ok (.iload_n 1, 1) := dk_27 (dk_at dksX4_lot_2 18 rfl rfl)
theorem dX4_lot_83 : decode cX4_lot 83 = .ok (.iaload, 1) := dk_46 (dk_at dksX4_lot_2 19 rfl rfl)
theorem dX4_lot_84 : decode cX4_lot 84 = .ok (.ireturn, 1) := dk_172 (dk_at dksX4_lot_2 20 rfl rfl)
theorem dX4_lot_85 : decode cX4_lot 85 = .ok (.aload_n 0, 1) := dk_42 (dk_at dksX4_lot_2 21 rfl rfl)
theorem dX4_lot_86 : decode cX4_lot 86 = .ok (.getfield 183, 3) := dk_180 0 183 (dk_at dksX4_lot_3 0 rfl rfl)
theorem dX4_lot_89 : decode cX4_lot 89 = .ok (.iload_n 1, 1) := dk_27 (dk_at dksX4_lot_3 3 rfl rfl)
theorem dX4_lot_90 : decode cX4_lot 90 = .ok (.baload, 1) := dk_51 (dk_at dksX4_lot_3 4 rfl rfl)
theorem dX4_lot_91 : decode cX4_lot 91 = .ok (.ifCond .eq 7, 3) := dk_153 0 7 (dk_at dksX4_lot_3 5 rfl rfl)
theorem dX4_lot_94 : decode cX4_lot 94 = .ok (.iconst 1, 1) := dk_4 (dk_at dksX4_lot_3 8 rfl rfl)
theorem dX4_lot_95 : decode cX4_lot 95 = .ok (.goto 4, 3) := dk_167 0 4 (dk_at dksX4_lot_3 9 rfl rfl)
theorem dX4_lot_98 : decode cX4_lot 98 = .ok (.iconst 0, 1) := dk_3 (dk_at dksX4_lot_3 12 rfl rfl)
theorem dX4_lot_99 : decode cX4_lot 99 = .ok (.ireturn, 1) := dk_172 (dk_at dksX4_lot_3 13 rfl rfl)
theorem dX4_lot_100 : decode cX4_lot 100 = .ok (.aload_n 0, 1) := dk_42 (dk_at dksX4_lot_3 14 rfl rfl)
theorem dX4_lot_101 : decode cX4_lot 101 = .ok (.getfield 162, 3) := dk_180 0 162 (dk_at dksX4_lot_3 15 rfl rfl)
theorem dX4_lot_104 : decode cX4_lot 104 = .ok (.iload_n 1, 1) := dk_27 (dk_at dksX4_lot_3 18 rfl rfl)
theorem dX4_lot_105 : decode cX4_lot 105 = .ok (.iaload, 1) := dk_46 (dk_at dksX4_lot_3 19 rfl rfl)
theorem dX4_lot_106 : decode cX4_lot 106 = .ok (.ireturn, 1) := dk_172 (dk_at dksX4_lot_3 20 rfl rfl)
theorem dX4_lot_107 : decode cX4_lot 107 = .ok (.aload_n 0, 1) := dk_42 (dk_at dksX4_lot_3 21 rfl rfl)
theorem dX4_lot_108 : decode cX4_lot 108 = .ok (.getfield 165, 3) := dk_180 0 165 (dk_at dksX4_lot_4 0 rfl rfl)
theorem dX4_lot_111 : decode cX4_lot 111 = .ok (.iload_n 1, 1) := dk_27 (dk_at dksX4_lot_4 3 rfl rfl)
theorem dX4_lot_112 : decode cX4_lot 112 = .ok (.iaload, 1) := dk_46 (dk_at dksX4_lot_4 4 rfl rfl)
theorem dX4_lot_113 : decode cX4_lot 113 = .ok (.ireturn, 1) := dk_172 (dk_at dksX4_lot_4 5 rfl rfl)
theorem dX4_lot_114 : decode cX4_lot 114 = .ok (.aload_n 0, 1) := dk_42 (dk_at dksX4_lot_4 6 rfl rfl)
theorem dX4_lot_115 : decode cX4_lot 115 = .ok (.getfield 180, 3) := dk_180 0 180 (dk_at dksX4_lot_4 7 rfl rfl)
theorem dX4_lot_118 : decode cX4_lot 118 = .ok (.iload_n 1, 1) := dk_27 (dk_at dksX4_lot_4 10 rfl rfl)
theorem dX4_lot_119 : decode cX4_lot 119 = .ok (.iaload, 1) := dk_46 (dk_at dksX4_lot_4 11 rfl rfl)
theorem dX4_lot_120 : decode cX4_lot 120 = .ok (.ireturn, 1) := dk_172 (dk_at dksX4_lot_4 12 rfl rfl)
theorem dX4_lot_121 : decode cX4_lot 121 = .ok (.aload_n 0, 1) := dk_42 (dk_at dksX4_lot_4 13 rfl rfl)
theorem dX4_lot_122 : decode cX4_lot 122 = .ok (.getfield 168, 3) := dk_180 0 168 (dk_at dksX4_lot_4 14 rfl rfl)
theorem dX4_lot_125 : decode cX4_lot 125 = .ok (.iload_n 1, 1) := dk_27 (dk_at dksX4_lot_4 17 rfl rfl)
theorem dX4_lot_126 : decode cX4_lot 126 = .ok (.iaload, 1) := dk_46 (dk_at dksX4_lot_4 18 rfl rfl)
theorem dX4_lot_127 : decode cX4_lot 127 = .ok (.ireturn, 1) := dk_172 (dk_at dksX4_lot_4 19 rfl rfl)
theorem dX4_lot_128 : decode cX4_lot 128 = .ok (.iconst (-1), 1) := dk_2 (dk_at dksX4_lot_4 20 rfl rfl)
theorem dX4_lot_129 : decode cX4_lot 129 = .ok (.ireturn, 1) := dk_172 (dk_at dksX4_lot_4 21 rfl rfl)
abbrev cX4_taste : ByteArray := prog_23_method_77_code
def yX4_taste : MethodName := ⟨RX4, "taste", "(III)I"⟩
def dkwX4_taste_3 : List UInt8 := [42, 180, 0, 156, 27, 21, 4, 79, 42, 180, 0, 159, 27, 21, 5, 79, 4, 172]
abbrev dktX4_taste_3 : List UInt8 := dkwX4_taste_3 ++ []
def dkwX4_taste_2 : List UInt8 := [162, 0, 12, 42, 180, 0, 159, 27, 46, 167, 0, 4, 29, 54, 5, 21, 4, 21, 5, 164, 0, 5, 3, 172]
abbrev dktX4_taste_2 : List UInt8 := dkwX4_taste_2 ++ dktX4_taste_3
def dkwX4_taste_1 : List UInt8 := [28, 164, 0, 12, 42, 180, 0, 156, 27, 46, 167, 0, 4, 28, 54, 4, 42, 180, 0, 159, 27, 46, 29]
abbrev dktX4_taste_1 : List UInt8 := dkwX4_taste_1 ++ dktX4_taste_2
def dkwX4_taste_0 : List UInt8 := [42, 27, 182, 1, 253, 153, 0, 11, 28, 29, 184, 2, 0, 154, 0, 5, 2, 172, 42, 180, 0, 156, 27, 46]
abbrev dktX4_taste_0 : List UInt8 := dkwX4_taste_0 ++ dktX4_taste_1
theorem dksX4_taste_0 : cX4_taste.data.toList.drop 0 = dktX4_taste_0 := by decide +kernel
theorem dksX4_taste_1 : cX4_taste.data.toList.drop 24 = dktX4_taste_1 := dk_seg dksX4_taste_0 24 rfl rfl
theorem dksX4_taste_2 : cX4_taste.data.toList.drop 47 = dktX4_taste_2 := dk_seg dksX4_taste_1 23 rfl rfl
theorem dksX4_taste_3 : cX4_taste.data.toList.drop 71 = dktX4_taste_3 := dk_seg dksX4_taste_2 24 rfl rfl
theorem dX4_taste_0 : decode cX4_taste 0 = .ok (.aload_n 0, 1) := dk_42 (dk_at dksX4_taste_0 0 rfl rfl)
theorem dX4_taste_1 : decode cX4_taste 1 = .ok (.iload_n 1, 1) := dk_27 (dk_at dksX4_taste_0 1 rfl rfl)
theorem dX4_taste_2 : decode cX4_taste 2 = .ok (.invokevirtual 509, 3) := dk_182 1 253 (dk_at dksX4_taste_0 2 rfl rfl)
theorem dX4_taste_5 : decode cX4_taste 5 = .ok (.ifCond .eq 11, 3) := dk_153 0 11 (dk_at dksX4_taste_0 5 rfl rfl)
theorem dX4_taste_8 : decode cX4_taste 8 = .ok (.iload_n 2, 1) := dk_28 (dk_at dksX4_taste_0 8 rfl rfl)
theorem dX4_taste_9 : decode cX4_taste 9 = .ok (.iload_n 3, 1) := dk_29 (dk_at dksX4_taste_0 9 rfl rfl)
theorem dX4_taste_10 : decode cX4_taste 10 = .ok (.invokestatic 512, 3) := dk_184 2 0 (dk_at dksX4_taste_0 10 rfl rfl)
theorem dX4_taste_13 : decode cX4_taste 13 = .ok (.ifCond .ne 5, 3) := dk_154 0 5 (dk_at dksX4_taste_0 13 rfl rfl)
theorem dX4_taste_16 : decode cX4_taste 16 = .ok (.iconst (-1), 1) := dk_2 (dk_at dksX4_taste_0 16 rfl rfl)
theorem dX4_taste_17 : decode cX4_taste 17 = .ok (.ireturn, 1) := dk_172 (dk_at dksX4_taste_0 17 rfl rfl)
theorem dX4_taste_18 : decode cX4_taste 18 = .ok (.aload_n 0, 1) := dk_42 (dk_at dksX4_taste_0 18 rfl rfl)
theorem dX4_taste_19 : decode cX4_taste 19 = .ok (.getfield 156, 3) := dk_180 0 156 (dk_at dksX4_taste_0 19 rfl rfl)
theorem dX4_taste_22 : decode cX4_taste 22 = .ok (.iload_n 1, 1) := dk_27 (dk_at dksX4_taste_0 22 rfl rfl)
theorem dX4_taste_23 : decode cX4_taste 23 = .ok (.iaload, 1) := dk_46 (dk_at dksX4_taste_0 23 rfl rfl)
theorem dX4_taste_24 : decode cX4_taste 24 = .ok (.iload_n 2, 1) := dk_28 (dk_at dksX4_taste_1 0 rfl rfl)
theorem dX4_taste_25 : decode cX4_taste 25 = .ok (.if_icmp .le 12, 3) := dk_164 0 12 (dk_at dksX4_taste_1 1 rfl rfl)
theorem dX4_taste_28 : decode cX4_taste 28 = .ok (.aload_n 0, 1) := dk_42 (dk_at dksX4_taste_1 4 rfl rfl)
theorem dX4_taste_29 : decode cX4_taste 29 = .ok (.getfield 156, 3) := dk_180 0 156 (dk_at dksX4_taste_1 5 rfl rfl)
theorem dX4_taste_32 : decode cX4_taste 32 = .ok (.iload_n 1, 1) := dk_27 (dk_at dksX4_taste_1 8 rfl rfl)
theorem dX4_taste_33 : decode cX4_taste 33 = .ok (.iaload, 1) := dk_46 (dk_at dksX4_taste_1 9 rfl rfl)
theorem dX4_taste_34 : decode cX4_taste 34 = .ok (.goto 4, 3) := dk_167 0 4 (dk_at dksX4_taste_1 10 rfl rfl)
theorem dX4_taste_37 : decode cX4_taste 37 = .ok (.iload_n 2, 1) := dk_28 (dk_at dksX4_taste_1 13 rfl rfl)
theorem dX4_taste_38 : decode cX4_taste 38 = .ok (.istore 4, 2) := dk_54 4 (dk_at dksX4_taste_1 14 rfl rfl)
theorem dX4_taste_40 : decode cX4_taste 40 = .ok (.aload_n 0, 1) := dk_42 (dk_at dksX4_taste_1 16 rfl rfl)
theorem dX4_taste_41 : decode cX4_taste 41 = .ok (.getfield 159, 3) := dk_180 0 159 (dk_at dksX4_taste_1 17 rfl rfl)
theorem dX4_taste_44 : decode cX4_taste 44 = .ok (.iload_n 1, 1) := dk_27 (dk_at dksX4_taste_1 20 rfl rfl)
theorem dX4_taste_45 : decode cX4_taste 45 = .ok (.iaload, 1) := dk_46 (dk_at dksX4_taste_1 21 rfl rfl)
theorem dX4_taste_46 : decode cX4_taste 46 = .ok (.iload_n 3, 1) := dk_29 (dk_at dksX4_taste_1 22 rfl rfl)
theorem dX4_taste_47 : decode cX4_taste 47 = .ok (.if_icmp .ge 12, 3) := dk_162 0 12 (dk_at dksX4_taste_2 0 rfl rfl)
theorem dX4_taste_50 : decode cX4_taste 50 = .ok (.aload_n 0, 1) := dk_42 (dk_at dksX4_taste_2 3 rfl rfl)
theorem dX4_taste_51 : decode cX4_taste 51 = .ok (.getfield 159, 3) := dk_180 0 159 (dk_at dksX4_taste_2 4 rfl rfl)
theorem dX4_taste_54 : decode cX4_taste 54 = .ok (.iload_n 1, 1) := dk_27 (dk_at dksX4_taste_2 7 rfl rfl)
theorem dX4_taste_55 : decode cX4_taste 55 = .ok (.iaload, 1) := dk_46 (dk_at dksX4_taste_2 8 rfl rfl)
theorem dX4_taste_56 : decode cX4_taste 56 = .ok (.goto 4, 3) := dk_167 0 4 (dk_at dksX4_taste_2 9 rfl rfl)
theorem dX4_taste_59 : decode cX4_taste 59 = .ok (.iload_n 3, 1) := dk_29 (dk_at dksX4_taste_2 12 rfl rfl)
theorem dX4_taste_60 : decode cX4_taste 60 = .ok (.istore 5, 2) := dk_54 5 (dk_at dksX4_taste_2 13 rfl rfl)
theorem dX4_taste_62 : decode cX4_taste 62 = .ok (.iload 4, 2) := dk_21 4 (dk_at dksX4_taste_2 15 rfl rfl)
theorem dX4_taste_64 : decode cX4_taste 64 = .ok (.iload 5, 2) := dk_21 5 (dk_at dksX4_taste_2 17 rfl rfl)
theorem dX4_taste_66 : decode cX4_taste 66 = .ok (.if_icmp .le 5, 3) := dk_164 0 5 (dk_at dksX4_taste_2 19 rfl rfl)
theorem dX4_taste_69 : decode cX4_taste 69 = .ok (.iconst 0, 1) := dk_3 (dk_at dksX4_taste_2 22 rfl rfl)
theorem dX4_taste_70 : decode cX4_taste 70 = .ok (.ireturn, 1) := dk_172 (dk_at dksX4_taste_2 23 rfl rfl)
theorem dX4_taste_71 : decode cX4_taste 71 = .ok (.aload_n 0, 1) := dk_42 (dk_at dksX4_taste_3 0 rfl rfl)
theorem dX4_taste_72 : decode cX4_taste 72 = .ok (.getfield 156, 3) := dk_180 0 156 (dk_at dksX4_taste_3 1 rfl rfl)
theorem dX4_taste_75 : decode cX4_taste 75 = .ok (.iload_n 1, 1) := dk_27 (dk_at dksX4_taste_3 4 rfl rfl)
theorem dX4_taste_76 : decode cX4_taste 76 = .ok (.iload 4, 2) := dk_21 4 (dk_at dksX4_taste_3 5 rfl rfl)
theorem dX4_taste_78 : decode cX4_taste 78 = .ok (.iastore, 1) := dk_79 (dk_at dksX4_taste_3 7 rfl rfl)
theorem dX4_taste_79 : decode cX4_taste 79 = .ok (.aload_n 0, 1) := dk_42 (dk_at dksX4_taste_3 8 rfl rfl)
theorem dX4_taste_80 : decode cX4_taste 80 = .ok (.getfield 159, 3) := dk_180 0 159 (dk_at dksX4_taste_3 9 rfl rfl)
theorem dX4_taste_83 : decode cX4_taste 83 = .ok (.iload_n 1, 1) := dk_27 (dk_at dksX4_taste_3 12 rfl rfl)
theorem dX4_taste_84 : decode cX4_taste 84 = .ok (.iload 5, 2) := dk_21 5 (dk_at dksX4_taste_3 13 rfl rfl)
theorem dX4_taste_86 : decode cX4_taste 86 = .ok (.iastore, 1) := dk_79 (dk_at dksX4_taste_3 15 rfl rfl)
theorem dX4_taste_87 : decode cX4_taste 87 = .ok (.iconst 1, 1) := dk_4 (dk_at dksX4_taste_3 16 rfl rfl)
theorem dX4_taste_88 : decode cX4_taste 88 = .ok (.ireturn, 1) := dk_172 (dk_at dksX4_taste_3 17 rfl rfl)
abbrev cX4_isLot : ByteArray := prog_23_method_74_code
def yX4_isLot : MethodName := ⟨RX4, "isLot", "(I)Z"⟩
def dkwX4_isLot_1 : List UInt8 := [167, 0, 4, 3, 172]
abbrev dktX4_isLot_1 : List UInt8 := dkwX4_isLot_1 ++ []
def dkwX4_isLot_0 : List UInt8 := [27, 3, 42, 180, 1, 32, 4, 100, 184, 0, 244, 153, 0, 16, 42, 180, 0, 183, 27, 51, 153, 0, 7, 4]
abbrev dktX4_isLot_0 : List UInt8 := dkwX4_isLot_0 ++ dktX4_isLot_1
theorem dksX4_isLot_0 : cX4_isLot.data.toList.drop 0 = dktX4_isLot_0 := by decide +kernel
theorem dksX4_isLot_1 : cX4_isLot.data.toList.drop 24 = dktX4_isLot_1 := dk_seg dksX4_isLot_0 24 rfl rfl
theorem dX4_isLot_0 : decode cX4_isLot 0 = .ok (.iload_n 1, 1) := dk_27 (dk_at dksX4_isLot_0 0 rfl rfl)
theorem dX4_isLot_1 : decode cX4_isLot 1 = .ok (.iconst 0, 1) := dk_3 (dk_at dksX4_isLot_0 1 rfl rfl)
theorem dX4_isLot_2 : decode cX4_isLot 2 = .ok (.aload_n 0, 1) := dk_42 (dk_at dksX4_isLot_0 2 rfl rfl)
theorem dX4_isLot_3 : decode cX4_isLot 3 = .ok (.getfield 288, 3) := dk_180 1 32 (dk_at dksX4_isLot_0 3 rfl rfl)
theorem dX4_isLot_6 : decode cX4_isLot 6 = .ok (.iconst 1, 1) := dk_4 (dk_at dksX4_isLot_0 6 rfl rfl)
theorem dX4_isLot_7 : decode cX4_isLot 7 = .ok (.isub, 1) := dk_100 (dk_at dksX4_isLot_0 7 rfl rfl)
theorem dX4_isLot_8 : decode cX4_isLot 8 = .ok (.invokestatic 244, 3) := dk_184 0 244 (dk_at dksX4_isLot_0 8 rfl rfl)
theorem dX4_isLot_11 : decode cX4_isLot 11 = .ok (.ifCond .eq 16, 3) := dk_153 0 16 (dk_at dksX4_isLot_0 11 rfl rfl)
theorem dX4_isLot_14 : decode cX4_isLot 14 = .ok (.aload_n 0, 1) := dk_42 (dk_at dksX4_isLot_0 14 rfl rfl)
theorem dX4_isLot_15 : decode cX4_isLot 15 = .ok (.getfield 183, 3) := dk_180 0 183 (dk_at dksX4_isLot_0 15 rfl rfl)
theorem dX4_isLot_18 : decode cX4_isLot 18 = .ok (.iload_n 1, 1) := dk_27 (dk_at dksX4_isLot_0 18 rfl rfl)
theorem dX4_isLot_19 : decode cX4_isLot 19 = .ok (.baload, 1) := dk_51 (dk_at dksX4_isLot_0 19 rfl rfl)
theorem dX4_isLot_20 : decode cX4_isLot 20 = .ok (.ifCond .eq 7, 3) := dk_153 0 7 (dk_at dksX4_isLot_0 20 rfl rfl)
theorem dX4_isLot_23 : decode cX4_isLot 23 = .ok (.iconst 1, 1) := dk_4 (dk_at dksX4_isLot_0 23 rfl rfl)
theorem dX4_isLot_24 : decode cX4_isLot 24 = .ok (.goto 4, 3) := dk_167 0 4 (dk_at dksX4_isLot_1 0 rfl rfl)
theorem dX4_isLot_27 : decode cX4_isLot 27 = .ok (.iconst 0, 1) := dk_3 (dk_at dksX4_isLot_1 3 rfl rfl)
theorem dX4_isLot_28 : decode cX4_isLot 28 = .ok (.ireturn, 1) := dk_172 (dk_at dksX4_isLot_1 4 rfl rfl)
abbrev cX4_isSpan : ByteArray := prog_23_method_76_code
def yX4_isSpan : MethodName := ⟨RX4, "isSpan", "(II)Z"⟩
def dkwX4_isSpan_1 : List UInt8 := [3, 172]
abbrev dktX4_isSpan_1 : List UInt8 := dkwX4_isSpan_1 ++ []
def dkwX4_isSpan_0 : List UInt8 := [26, 3, 16, 90, 184, 0, 244, 153, 0, 17, 27, 26, 16, 90, 184, 0, 244, 153, 0, 7, 4, 167, 0, 4]
abbrev dktX4_isSpan_0 : List UInt8 := dkwX4_isSpan_0 ++ dktX4_isSpan_1
theorem dksX4_isSpan_0 : cX4_isSpan.data.toList.drop 0 = dktX4_isSpan_0 := by decide +kernel
theorem dksX4_isSpan_1 : cX4_isSpan.data.toList.drop 24 = dktX4_isSpan_1 := dk_seg dksX4_isSpan_0 24 rfl rfl
theorem dX4_isSpan_0 : decode cX4_isSpan 0 = .ok (.iload_n 0, 1) := dk_26 (dk_at dksX4_isSpan_0 0 rfl rfl)
theorem dX4_isSpan_1 : decode cX4_isSpan 1 = .ok (.iconst 0, 1) := dk_3 (dk_at dksX4_isSpan_0 1 rfl rfl)
theorem dX4_isSpan_2 : decode cX4_isSpan 2 = .ok (.bipush 90, 2) := dk_16 90 (dk_at dksX4_isSpan_0 2 rfl rfl)
theorem dX4_isSpan_4 : decode cX4_isSpan 4 = .ok (.invokestatic 244, 3) := dk_184 0 244 (dk_at dksX4_isSpan_0 4 rfl rfl)
theorem dX4_isSpan_7 : decode cX4_isSpan 7 = .ok (.ifCond .eq 17, 3) := dk_153 0 17 (dk_at dksX4_isSpan_0 7 rfl rfl)
theorem dX4_isSpan_10 : decode cX4_isSpan 10 = .ok (.iload_n 1, 1) := dk_27 (dk_at dksX4_isSpan_0 10 rfl rfl)
theorem dX4_isSpan_11 : decode cX4_isSpan 11 = .ok (.iload_n 0, 1) := dk_26 (dk_at dksX4_isSpan_0 11 rfl rfl)
theorem dX4_isSpan_12 : decode cX4_isSpan 12 = .ok (.bipush 90, 2) := dk_16 90 (dk_at dksX4_isSpan_0 12 rfl rfl)
theorem dX4_isSpan_14 : decode cX4_isSpan 14 = .ok (.invokestatic 244, 3) := dk_184 0 244 (dk_at dksX4_isSpan_0 14 rfl rfl)
theorem dX4_isSpan_17 : decode cX4_isSpan 17 = .ok (.ifCond .eq 7, 3) := dk_153 0 7 (dk_at dksX4_isSpan_0 17 rfl rfl)
theorem dX4_isSpan_20 : decode cX4_isSpan 20 = .ok (.iconst 1, 1) := dk_4 (dk_at dksX4_isSpan_0 20 rfl rfl)
theorem dX4_isSpan_21 : decode cX4_isSpan 21 = .ok (.goto 4, 3) := dk_167 0 4 (dk_at dksX4_isSpan_0 21 rfl rfl)
theorem dX4_isSpan_24 : decode cX4_isSpan 24 = .ok (.iconst 0, 1) := dk_3 (dk_at dksX4_isSpan_1 0 rfl rfl)
theorem dX4_isSpan_25 : decode cX4_isSpan 25 = .ok (.ireturn, 1) := dk_172 (dk_at dksX4_isSpan_1 1 rfl rfl)
abbrev cX4_mix : ByteArray := prog_23_method_78_code
def yX4_mix : MethodName := ⟨RX4, "mix", "(II)I"⟩
def dkwX4_mix_7 : List UInt8 := [84, 42, 180, 0, 183, 28, 3, 84, 29, 172]
abbrev dktX4_mix_7 : List UInt8 := dkwX4_mix_7 ++ []
def dkwX4_mix_6 : List UInt8 := [180, 0, 180, 29, 42, 180, 0, 180, 27, 46, 42, 180, 0, 180, 28, 46, 128, 79, 42, 180, 0, 183, 27, 3]
abbrev dktX4_mix_6 : List UInt8 := dkwX4_mix_6 ++ dktX4_mix_7
def dkwX4_mix_5 : List UInt8 := [79, 42, 180, 0, 165, 29, 2, 79, 42, 180, 0, 171, 29, 27, 79, 42, 180, 0, 174, 29, 28, 79, 42]
abbrev dktX4_mix_5 : List UInt8 := dkwX4_mix_5 ++ dktX4_mix_6
def dkwX4_mix_4 : List UInt8 := [180, 0, 159, 27, 46, 167, 0, 9, 42, 180, 0, 159, 28, 46, 182, 1, 250, 62, 42, 180, 0, 162, 29, 2]
abbrev dktX4_mix_4 : List UInt8 := dkwX4_mix_4 ++ dktX4_mix_5
def dkwX4_mix_3 : List UInt8 := [42, 180, 0, 156, 28, 46, 42, 180, 0, 159, 27, 46, 42, 180, 0, 159, 28, 46, 164, 0, 12, 42]
abbrev dktX4_mix_3 : List UInt8 := dkwX4_mix_3 ++ dktX4_mix_4
def dkwX4_mix_2 : List UInt8 := [42, 180, 0, 156, 27, 46, 42, 180, 0, 156, 28, 46, 162, 0, 12, 42, 180, 0, 156, 27, 46, 167, 0, 9]
abbrev dktX4_mix_2 : List UInt8 := dkwX4_mix_2 ++ dktX4_mix_3
def dkwX4_mix_1 : List UInt8 := [180, 1, 32, 16, 40, 160, 0, 5, 2, 172, 42, 42, 180, 0, 153, 27, 46, 42, 180, 0, 153, 28, 46, 96]
abbrev dktX4_mix_1 : List UInt8 := dkwX4_mix_1 ++ dktX4_mix_2
def dkwX4_mix_0 : List UInt8 := [42, 27, 182, 1, 253, 153, 0, 25, 42, 28, 182, 1, 253, 153, 0, 17, 27, 28, 159, 0, 12, 42]
abbrev dktX4_mix_0 : List UInt8 := dkwX4_mix_0 ++ dktX4_mix_1
theorem dksX4_mix_0 : cX4_mix.data.toList.drop 0 = dktX4_mix_0 := by decide +kernel
theorem dksX4_mix_1 : cX4_mix.data.toList.drop 22 = dktX4_mix_1 := dk_seg dksX4_mix_0 22 rfl rfl
theorem dksX4_mix_2 : cX4_mix.data.toList.drop 46 = dktX4_mix_2 := dk_seg dksX4_mix_1 24 rfl rfl
theorem dksX4_mix_3 : cX4_mix.data.toList.drop 70 = dktX4_mix_3 := dk_seg dksX4_mix_2 24 rfl rfl
theorem dksX4_mix_4 : cX4_mix.data.toList.drop 92 = dktX4_mix_4 := dk_seg dksX4_mix_3 22 rfl rfl
theorem dksX4_mix_5 : cX4_mix.data.toList.drop 116 = dktX4_mix_5 := dk_seg dksX4_mix_4 24 rfl rfl
theorem dksX4_mix_6 : cX4_mix.data.toList.drop 139 = dktX4_mix_6 := dk_seg dksX4_mix_5 23 rfl rfl
theorem dksX4_mix_7 : cX4_mix.data.toList.drop 163 = dktX4_mix_7 := dk_seg dksX4_mix_6 24 rfl rfl
theorem dX4_mix_0 : decode cX4_mix 0 = .ok (.aload_n 0, 1) := dk_42 (dk_at dksX4_mix_0 0 rfl rfl)
theorem dX4_mix_1 : decode cX4_mix 1 = .ok (.iload_n 1, 1) := dk_27 (dk_at dksX4_mix_0 1 rfl rfl)
theorem dX4_mix_2 : decode cX4_mix 2 = .ok (.invokevirtual 509, 3) := dk_182 1 253 (dk_at dksX4_mix_0 2 rfl rfl)
theorem dX4_mix_5 : decode cX4_mix 5 = .ok (.ifCond .eq 25, 3) := dk_153 0 25 (dk_at dksX4_mix_0 5 rfl rfl)
theorem dX4_mix_8 : decode cX4_mix 8 = .ok (.aload_n 0, 1) := dk_42 (dk_at dksX4_mix_0 8 rfl rfl)
theorem dX4_mix_9 : decode cX4_mix 9 = .ok (.iload_n 2, 1) := dk_28 (dk_at dksX4_mix_0 9 rfl rfl)
theorem dX4_mix_10 : decode cX4_mix 10 = .ok (.invokevirtual 509, 3) := dk_182 1 253 (dk_at dksX4_mix_0 10 rfl rfl)
theorem dX4_mix_13 : decode cX4_mix 13 = .ok (.ifCond .eq 17, 3) := dk_153 0 17 (dk_at dksX4_mix_0 13 rfl rfl)
theorem dX4_mix_16 : decode cX4_mix 16 = .ok (.iload_n 1, 1) := dk_27 (dk_at dksX4_mix_0 16 rfl rfl)
theorem dX4_mix_17 : decode cX4_mix 17 = .ok (.iload_n 2, 1) := dk_28 (dk_at dksX4_mix_0 17 rfl rfl)
theorem dX4_mix_18 : decode cX4_mix 18 = .ok (.if_icmp .eq 12, 3) := dk_159 0 12 (dk_at dksX4_mix_0 18 rfl rfl)
theorem dX4_mix_21 : decode cX4_mix 21 = .ok (.aload_n 0, 1) := dk_42 (dk_at dksX4_mix_0 21 rfl rfl)
theorem dX4_mix_22 : decode cX4_mix 22 = .ok (.getfield 288, 3) := dk_180 1 32 (dk_at dksX4_mix_1 0 rfl rfl)
theorem dX4_mix_25 : decode cX4_mix 25 = .ok (.bipush 40, 2) := dk_16 40 (dk_at dksX4_mix_1 3 rfl rfl)
theorem dX4_mix_27 : decode cX4_mix 27 = .ok (.if_icmp .ne 5, 3) := dk_160 0 5 (dk_at dksX4_mix_1 5 rfl rfl)
theorem dX4_mix_30 : decode cX4_mix 30 = .ok (.iconst (-1), 1) := dk_2 (dk_at dksX4_mix_1 8 rfl rfl)
theorem dX4_mix_31 : decode cX4_mix 31 = .ok (.ireturn, 1) := dk_172 (dk_at dksX4_mix_1 9 rfl rfl)
theorem dX4_mix_32 : decode cX4_mix 32 = .ok (.aload_n 0, 1) := dk_42 (dk_at dksX4_mix_1 10 rfl rfl)
theorem dX4_mix_33 : decode cX4_mix 33 = .ok (.aload_n 0, 1) := dk_42 (dk_at dksX4_mix_1 11 rfl rfl)
theorem dX4_mix_34 : decode cX4_mix 34 = .ok (.getfield 153, 3) := dk_180 0 153 (dk_at dksX4_mix_1 12 rfl rfl)
theorem dX4_mix_37 : decode cX4_mix 37 = .ok (.iload_n 1, 1) := dk_27 (dk_at dksX4_mix_1 15 rfl rfl)
theorem dX4_mix_38 : decode cX4_mix 38 = .ok (.iaload, 1) := dk_46 (dk_at dksX4_mix_1 16 rfl rfl)
theorem dX4_mix_39 : decode cX4_mix 39 = .ok (.aload_n 0, 1) := dk_42 (dk_at dksX4_mix_1 17 rfl rfl)
theorem dX4_mix_40 : decode cX4_mix 40 = .ok (.getfield 153, 3) := dk_180 0 153 (dk_at dksX4_mix_1 18 rfl rfl)
theorem dX4_mix_43 : decode cX4_mix 43 = .ok (.iload_n 2, 1) := dk_28 (dk_at dksX4_mix_1 21 rfl rfl)
theorem dX4_mix_44 : decode cX4_mix 44 = .ok (.iaload, 1) := dk_46 (dk_at dksX4_mix_1 22 rfl rfl)
theorem dX4_mix_45 : decode cX4_mix 45 = .ok (.iadd, 1) := dk_96 (dk_at dksX4_mix_1 23 rfl rfl)
theorem dX4_mix_46 : decode cX4_mix 46 = .ok (.aload_n 0, 1) := dk_42 (dk_at dksX4_mix_2 0 rfl rfl)
theorem dX4_mix_47 : decode cX4_mix 47 = .ok (.getfield 156, 3) := dk_180 0 156 (dk_at dksX4_mix_2 1 rfl rfl)
theorem dX4_mix_50 : decode cX4_mix 50 = .ok (.iload_n 1, 1) := dk_27 (dk_at dksX4_mix_2 4 rfl rfl)
theorem dX4_mix_51 : decode cX4_mix 51 = .ok (.iaload, 1) := dk_46 (dk_at dksX4_mix_2 5 rfl rfl)
theorem dX4_mix_52 : decode cX4_mix 52 = .ok (.aload_n 0, 1) := dk_42 (dk_at dksX4_mix_2 6 rfl rfl)
theorem dX4_mix_53 : decode cX4_mix 53 = .ok (.getfield 156, 3) := dk_180 0 156 (dk_at dksX4_mix_2 7 rfl rfl)
theorem dX4_mix_56 : decode cX4_mix 56 = .ok (.iload_n 2, 1) := dk_28 (dk_at dksX4_mix_2 10 rfl rfl)
theorem dX4_mix_57 : decode cX4_mix 57 = .ok (.iaload, 1) := dk_46 (dk_at dksX4_mix_2 11 rfl rfl)
theorem dX4_mix_58 : decode cX4_mix 58 = .ok (.if_icmp .ge 12, 3) := dk_162 0 12 (dk_at dksX4_mix_2 12 rfl rfl)
theorem dX4_mix_61 : decode cX4_mix 61 = .ok (.aload_n 0, 1) := dk_42 (dk_at dksX4_mix_2 15 rfl rfl)
theorem dX4_mix_62 : decode cX4_mix 62 = .ok (.getfield 156, 3) := dk_180 0 156 (dk_at dksX4_mix_2 16 rfl rfl)
theorem dX4_mix_65 : decode cX4_mix 65 = .ok (.iload_n 1, 1) := dk_27 (dk_at dksX4_mix_2 19 rfl rfl)
theorem dX4_mix_66 : decode cX4_mix 66 = .ok (.iaload, 1) := dk_46 (dk_at dksX4_mix_2 20 rfl rfl)
theorem dX4_mix_67 : decode cX4_mix 67 = .ok (.goto 9, 3) := dk_167 0 9 (dk_at dksX4_mix_2 21 rfl rfl)
theorem dX4_mix_70 : decode cX4_mix 70 = .ok (.aload_n 0, 1) := dk_42 (dk_at dksX4_mix_3 0 rfl rfl)
theorem dX4_mix_71 : decode cX4_mix 71 = .ok (.getfield 156, 3) := dk_180 0 156 (dk_at dksX4_mix_3 1 rfl rfl)
theorem dX4_mix_74 : decode cX4_mix 74 = .ok (.iload_n 2, 1) := dk_28 (dk_at dksX4_mix_3 4 rfl rfl)
theorem dX4_mix_75 : decode cX4_mix 75 = .ok (.iaload, 1) := dk_46 (dk_at dksX4_mix_3 5 rfl rfl)
theorem dX4_mix_76 : decode cX4_mix 76 = .ok (.aload_n 0, 1) := dk_42 (dk_at dksX4_mix_3 6 rfl rfl)
theorem dX4_mix_77 : decode cX4_mix 77 = .ok (.getfield 159, 3) := dk_180 0 159 (dk_at dksX4_mix_3 7 rfl rfl)
theorem dX4_mix_80 : decode cX4_mix 80 = .ok (.iload_n 1, 1) := dk_27 (dk_at dksX4_mix_3 10 rfl rfl)
theorem dX4_mix_81 : decode cX4_mix 81 = .ok (.iaload, 1) := dk_46 (dk_at dksX4_mix_3 11 rfl rfl)
theorem dX4_mix_82 : decode cX4_mix 82 = .ok (.aload_n 0, 1) := dk_42 (dk_at dksX4_mix_3 12 rfl rfl)
theorem dX4_mix_83 : decode cX4_mix 83 = .ok (.getfield 159, 3) := dk_180 0 159 (dk_at dksX4_mix_3 13 rfl rfl)
theorem dX4_mix_86 : decode cX4_mix 86 = .ok (.iload_n 2, 1) := dk_28 (dk_at dksX4_mix_3 16 rfl rfl)
theorem dX4_mix_87 : decode cX4_mix 87 = .ok (.iaload, 1) := dk_46 (dk_at dksX4_mix_3 17 rfl rfl)
theorem dX4_mix_88 : decode cX4_mix 88 = .ok (.if_icmp .le 12, 3) := dk_164 0 12 (dk_at dksX4_mix_3 18 rfl rfl)
theorem dX4_mix_91 : decode cX4_mix 91 = .ok (.aload_n 0, 1) := dk_42 (dk_at dksX4_mix_3 21 rfl rfl)
theorem dX4_mix_92 : decode cX4_mix 92 = .ok (.getfield 159, 3) := dk_180 0 159 (dk_at dksX4_mix_4 0 rfl rfl)
theorem dX4_mix_95 : decode cX4_mix 95 = .ok (.iload_n 1, 1) := dk_27 (dk_at dksX4_mix_4 3 rfl rfl)
theorem dX4_mix_96 : decode cX4_mix 96 = .ok (.iaload, 1) := dk_46 (dk_at dksX4_mix_4 4 rfl rfl)
theorem dX4_mix_97 : decode cX4_mix 97 = .ok (.goto 9, 3) := dk_167 0 9 (dk_at dksX4_mix_4 5 rfl rfl)
theorem dX4_mix_100 : decode cX4_mix 100 = .ok (.aload_n 0, 1) := dk_42 (dk_at dksX4_mix_4 8 rfl rfl)
theorem dX4_mix_101 : decode cX4_mix 101 = .ok (.getfield 159, 3) := dk_180 0 159 (dk_at dksX4_mix_4 9 rfl rfl)
theorem dX4_mix_104 : decode cX4_mix 104 = .ok (.iload_n 2, 1) := dk_28 (dk_at dksX4_mix_4 12 rfl rfl)
theorem dX4_mix_105 : decode cX4_mix 105 = .ok (.iaload, 1) := dk_46 (dk_at dksX4_mix_4 13 rfl rfl)
theorem dX4_mix_106 : decode cX4_mix 106 = .ok (.invokevirtual 506, 3) := dk_182 1 250 (dk_at dksX4_mix_4 14 rfl rfl)
theorem dX4_mix_109 : decode cX4_mix 109 = .ok (.istore_n 3, 1) := dk_62 (dk_at dksX4_mix_4 17 rfl rfl)
theorem dX4_mix_110 : decode cX4_mix 110 = .ok (.aload_n 0, 1) := dk_42 (dk_at dksX4_mix_4 18 rfl rfl)
theorem dX4_mix_111 : decode cX4_mix 111 = .ok (.getfield 162, 3) := dk_180 0 162 (dk_at dksX4_mix_4 19 rfl rfl)
theorem dX4_mix_114 : decode cX4_mix 114 = .ok (.iload_n 3, 1) := dk_29 (dk_at dksX4_mix_4 22 rfl rfl)
theorem dX4_mix_115 : decode cX4_mix 115 = .ok (.iconst (-1), 1) := dk_2 (dk_at dksX4_mix_4 23 rfl rfl)
theorem dX4_mix_116 : decode cX4_mix 116 = .ok (.iastore, 1) := dk_79 (dk_at dksX4_mix_5 0 rfl rfl)
theorem dX4_mix_117 : decode cX4_mix 117 = .ok (.aload_n 0, 1) := dk_42 (dk_at dksX4_mix_5 1 rfl rfl)
theorem dX4_mix_118 : decode cX4_mix 118 = .ok (.getfield 165, 3) := dk_180 0 165 (dk_at dksX4_mix_5 2 rfl rfl)
theorem dX4_mix_121 : decode cX4_mix 121 = .ok (.iload_n 3, 1) := dk_29 (dk_at dksX4_mix_5 5 rfl rfl)
theorem dX4_mix_122 : decode cX4_mix 122 = .ok (.iconst (-1), 1) := dk_2 (dk_at dksX4_mix_5 6 rfl rfl)
theorem dX4_mix_123 : decode cX4_mix 123 = .ok (.iastore, 1) := dk_79 (dk_at dksX4_mix_5 7 rfl rfl)
theorem dX4_mix_124 : decode cX4_mix 124 = .ok (.aload_n 0, 1) := dk_42 (dk_at dksX4_mix_5 8 rfl rfl)
theorem dX4_mix_125 : decode cX4_mix 125 = .ok (.getfield 171, 3) := dk_180 0 171 (dk_at dksX4_mix_5 9 rfl rfl)
theorem dX4_mix_128 : decode cX4_mix 128 = .ok (.iload_n 3, 1) := dk_29 (dk_at dksX4_mix_5 12 rfl rfl)
theorem dX4_mix_129 : decode cX4_mix 129 = .ok (.iload_n 1, 1) := dk_27 (dk_at dksX4_mix_5 13 rfl rfl)
theorem dX4_mix_130 : decode cX4_mix 130 = .ok (.iastore, 1) := dk_79 (dk_at dksX4_mix_5 14 rfl rfl)
theorem dX4_mix_131 : decode cX4_mix 131 = .ok (.aload_n 0, 1) := dk_42 (dk_at dksX4_mix_5 15 rfl rfl)
theorem dX4_mix_132 : decode cX4_mix 132 = .ok (.getfield 174, 3) := dk_180 0 174 (dk_at dksX4_mix_5 16 rfl rfl)
theorem dX4_mix_135 : decode cX4_mix 135 = .ok (.iload_n 3, 1) := dk_29 (dk_at dksX4_mix_5 19 rfl rfl)
theorem dX4_mix_136 : decode cX4_mix 136 = .ok (.iload_n 2, 1) := dk_28 (dk_at dksX4_mix_5 20 rfl rfl)
theorem dX4_mix_137 : decode cX4_mix 137 = .ok (.iastore, 1) := dk_79 (dk_at dksX4_mix_5 21 rfl rfl)
theorem dX4_mix_138 : decode cX4_mix 138 = .ok (.aload_n 0, 1) := dk_42 (dk_at dksX4_mix_5 22 rfl rfl)
theorem dX4_mix_139 : decode cX4_mix 139 = .ok (.getfield 180, 3) := dk_180 0 180 (dk_at dksX4_mix_6 0 rfl rfl)
theorem dX4_mix_142 : decode cX4_mix 142 = .ok (.iload_n 3, 1) := dk_29 (dk_at dksX4_mix_6 3 rfl rfl)
theorem dX4_mix_143 : decode cX4_mix 143 = .ok (.aload_n 0, 1) := dk_42 (dk_at dksX4_mix_6 4 rfl rfl)
theorem dX4_mix_144 : decode cX4_mix 144 = .ok (.getfield 180, 3) := dk_180 0 180 (dk_at dksX4_mix_6 5 rfl rfl)
theorem dX4_mix_147 : decode cX4_mix 147 = .ok (.iload_n 1, 1) := dk_27 (dk_at dksX4_mix_6 8 rfl rfl)
theorem dX4_mix_148 : decode cX4_mix 148 = .ok (.iaload, 1) := dk_46 (dk_at dksX4_mix_6 9 rfl rfl)
theorem dX4_mix_149 : decode cX4_mix 149 = .ok (.aload_n 0, 1) := dk_42 (dk_at dksX4_mix_6 10 rfl rfl)
theorem dX4_mix_150 : decode cX4_mix 150 = .ok (.getfield 180, 3) := dk_180 0 180 (dk_at dksX4_mix_6 11 rfl rfl)
theorem dX4_mix_153 : decode cX4_mix 153 = .ok (.iload_n 2, 1) := dk_28 (dk_at dksX4_mix_6 14 rfl rfl)
theorem dX4_mix_154 : decode cX4_mix 154 = .ok (.iaload, 1) := dk_46 (dk_at dksX4_mix_6 15 rfl rfl)
theorem dX4_mix_155 : decode cX4_mix 155 = .ok (.ior, 1) := dk_128 (dk_at dksX4_mix_6 16 rfl rfl)
theorem dX4_mix_156 : decode cX4_mix 156 = .ok (.iastore, 1) := dk_79 (dk_at dksX4_mix_6 17 rfl rfl)
theorem dX4_mix_157 : decode cX4_mix 157 = .ok (.aload_n 0, 1) := dk_42 (dk_at dksX4_mix_6 18 rfl rfl)
theorem dX4_mix_158 : decode cX4_mix 158 = .ok (.getfield 183, 3) := dk_180 0 183 (dk_at dksX4_mix_6 19 rfl rfl)
theorem dX4_mix_161 : decode cX4_mix 161 = .ok (.iload_n 1, 1) := dk_27 (dk_at dksX4_mix_6 22 rfl rfl)
theorem dX4_mix_162 : decode cX4_mix 162 = .ok (.iconst 0, 1) := dk_3 (dk_at dksX4_mix_6 23 rfl rfl)
theorem dX4_mix_163 : decode cX4_mix 163 = .ok (.bastore, 1) := dk_84 (dk_at dksX4_mix_7 0 rfl rfl)
theorem dX4_mix_164 : decode cX4_mix 164 = .ok (.aload_n 0, 1) := dk_42 (dk_at dksX4_mix_7 1 rfl rfl)
theorem dX4_mix_165 : decode cX4_mix 165 = .ok (.getfield 183, 3) := dk_180 0 183 (dk_at dksX4_mix_7 2 rfl rfl)
theorem dX4_mix_168 : decode cX4_mix 168 = .ok (.iload_n 2, 1) := dk_28 (dk_at dksX4_mix_7 5 rfl rfl)
theorem dX4_mix_169 : decode cX4_mix 169 = .ok (.iconst 0, 1) := dk_3 (dk_at dksX4_mix_7 6 rfl rfl)
theorem dX4_mix_170 : decode cX4_mix 170 = .ok (.bastore, 1) := dk_84 (dk_at dksX4_mix_7 7 rfl rfl)
theorem dX4_mix_171 : decode cX4_mix 171 = .ok (.iload_n 3, 1) := dk_29 (dk_at dksX4_mix_7 8 rfl rfl)
theorem dX4_mix_172 : decode cX4_mix 172 = .ok (.ireturn, 1) := dk_172 (dk_at dksX4_mix_7 9 rfl rfl)
abbrev cX4_buyer : ByteArray := prog_23_method_79_code
def yX4_buyer : MethodName := ⟨RX4, "buyer", "(IIII)I"⟩
def dkwX4_buyer_4 : List UInt8 := [4, 100, 172]
abbrev dktX4_buyer_4 : List UInt8 := dkwX4_buyer_4 ++ []
def dkwX4_buyer_3 : List UInt8 := [180, 0, 198, 42, 180, 2, 4, 21, 4, 79, 42, 89, 180, 2, 4, 4, 96, 181, 2, 4, 42, 180, 2, 4]
abbrev dktX4_buyer_3 : List UInt8 := dkwX4_buyer_3 ++ dktX4_buyer_4
def dkwX4_buyer_2 : List UInt8 := [27, 79, 42, 180, 0, 192, 42, 180, 2, 4, 28, 79, 42, 180, 0, 195, 42, 180, 2, 4, 29, 79, 42]
abbrev dktX4_buyer_2 : List UInt8 := dkwX4_buyer_2 ++ dktX4_buyer_3
def dkwX4_buyer_1 : List UInt8 := [184, 0, 244, 153, 0, 11, 42, 180, 2, 4, 7, 160, 0, 5, 2, 172, 42, 180, 0, 189, 42, 180, 2, 4]
abbrev dktX4_buyer_1 : List UInt8 := dkwX4_buyer_1 ++ dktX4_buyer_2
def dkwX4_buyer_0 : List UInt8 := [27, 28, 184, 2, 0, 153, 0, 33, 29, 4, 16, 99, 184, 0, 244, 153, 0, 23, 21, 4, 4, 19, 2, 3]
abbrev dktX4_buyer_0 : List UInt8 := dkwX4_buyer_0 ++ dktX4_buyer_1
theorem dksX4_buyer_0 : cX4_buyer.data.toList.drop 0 = dktX4_buyer_0 := by decide +kernel
theorem dksX4_buyer_1 : cX4_buyer.data.toList.drop 24 = dktX4_buyer_1 := dk_seg dksX4_buyer_0 24 rfl rfl
theorem dksX4_buyer_2 : cX4_buyer.data.toList.drop 48 = dktX4_buyer_2 := dk_seg dksX4_buyer_1 24 rfl rfl
theorem dksX4_buyer_3 : cX4_buyer.data.toList.drop 71 = dktX4_buyer_3 := dk_seg dksX4_buyer_2 23 rfl rfl
theorem dksX4_buyer_4 : cX4_buyer.data.toList.drop 95 = dktX4_buyer_4 := dk_seg dksX4_buyer_3 24 rfl rfl
theorem dX4_buyer_0 : decode cX4_buyer 0 = .ok (.iload_n 1, 1) := dk_27 (dk_at dksX4_buyer_0 0 rfl rfl)
theorem dX4_buyer_1 : decode cX4_buyer 1 = .ok (.iload_n 2, 1) := dk_28 (dk_at dksX4_buyer_0 1 rfl rfl)
theorem dX4_buyer_2 : decode cX4_buyer 2 = .ok (.invokestatic 512, 3) := dk_184 2 0 (dk_at dksX4_buyer_0 2 rfl rfl)
theorem dX4_buyer_5 : decode cX4_buyer 5 = .ok (.ifCond .eq 33, 3) := dk_153 0 33 (dk_at dksX4_buyer_0 5 rfl rfl)
theorem dX4_buyer_8 : decode cX4_buyer 8 = .ok (.iload_n 3, 1) := dk_29 (dk_at dksX4_buyer_0 8 rfl rfl)
theorem dX4_buyer_9 : decode cX4_buyer 9 = .ok (.iconst 1, 1) := dk_4 (dk_at dksX4_buyer_0 9 rfl rfl)
theorem dX4_buyer_10 : decode cX4_buyer 10 = .ok (.bipush 99, 2) := dk_16 99 (dk_at dksX4_buyer_0 10 rfl rfl)
theorem dX4_buyer_12 : decode cX4_buyer 12 = .ok (.invokestatic 244, 3) := dk_184 0 244 (dk_at dksX4_buyer_0 12 rfl rfl)
theorem dX4_buyer_15 : decode cX4_buyer 15 = .ok (.ifCond .eq 23, 3) := dk_153 0 23 (dk_at dksX4_buyer_0 15 rfl rfl)
theorem dX4_buyer_18 : decode cX4_buyer 18 = .ok (.iload 4, 2) := dk_21 4 (dk_at dksX4_buyer_0 18 rfl rfl)
theorem dX4_buyer_20 : decode cX4_buyer 20 = .ok (.iconst 1, 1) := dk_4 (dk_at dksX4_buyer_0 20 rfl rfl)
theorem dX4_buyer_21 : decode cX4_buyer 21 = .ok (.ldc_w 515, 3) := dk_19 2 3 (dk_at dksX4_buyer_0 21 rfl rfl)
theorem dX4_buyer_24 : decode cX4_buyer 24 = .ok (.invokestatic 244, 3) := dk_184 0 244 (dk_at dksX4_buyer_1 0 rfl rfl)
theorem dX4_buyer_27 : decode cX4_buyer 27 = .ok (.ifCond .eq 11, 3) := dk_153 0 11 (dk_at dksX4_buyer_1 3 rfl rfl)
theorem dX4_buyer_30 : decode cX4_buyer 30 = .ok (.aload_n 0, 1) := dk_42 (dk_at dksX4_buyer_1 6 rfl rfl)
theorem dX4_buyer_31 : decode cX4_buyer 31 = .ok (.getfield 516, 3) := dk_180 2 4 (dk_at dksX4_buyer_1 7 rfl rfl)
theorem dX4_buyer_34 : decode cX4_buyer 34 = .ok (.iconst 4, 1) := dk_7 (dk_at dksX4_buyer_1 10 rfl rfl)
theorem dX4_buyer_35 : decode cX4_buyer 35 = .ok (.if_icmp .ne 5, 3) := dk_160 0 5 (dk_at dksX4_buyer_1 11 rfl rfl)
theorem dX4_buyer_38 : decode cX4_buyer 38 = .ok (.iconst (-1), 1) := dk_2 (dk_at dksX4_buyer_1 14 rfl rfl)
theorem dX4_buyer_39 : decode cX4_buyer 39 = .ok (.ireturn, 1) := dk_172 (dk_at dksX4_buyer_1 15 rfl rfl)
theorem dX4_buyer_40 : decode cX4_buyer 40 = .ok (.aload_n 0, 1) := dk_42 (dk_at dksX4_buyer_1 16 rfl rfl)
theorem dX4_buyer_41 : decode cX4_buyer 41 = .ok (.getfield 189, 3) := dk_180 0 189 (dk_at dksX4_buyer_1 17 rfl rfl)
theorem dX4_buyer_44 : decode cX4_buyer 44 = .ok (.aload_n 0, 1) := dk_42 (dk_at dksX4_buyer_1 20 rfl rfl)
theorem dX4_buyer_45 : decode cX4_buyer 45 = .ok (.getfield 516, 3) := dk_180 2 4 (dk_at dksX4_buyer_1 21 rfl rfl)
theorem dX4_buyer_48 : decode cX4_buyer 48 = .ok (.iload_n 1, 1) := dk_27 (dk_at dksX4_buyer_2 0 rfl rfl)
theorem dX4_buyer_49 : decode cX4_buyer 49 = .ok (.iastore, 1) := dk_79 (dk_at dksX4_buyer_2 1 rfl rfl)
theorem dX4_buyer_50 : decode cX4_buyer 50 = .ok (.aload_n 0, 1) := dk_42 (dk_at dksX4_buyer_2 2 rfl rfl)
theorem dX4_buyer_51 : decode cX4_buyer 51 = .ok (.getfield 192, 3) := dk_180 0 192 (dk_at dksX4_buyer_2 3 rfl rfl)
theorem dX4_buyer_54 : decode cX4_buyer 54 = .ok (.aload_n 0, 1) := dk_42 (dk_at dksX4_buyer_2 6 rfl rfl)
theorem dX4_buyer_55 : decode cX4_buyer 55 = .ok (.getfield 516, 3) := dk_180 2 4 (dk_at dksX4_buyer_2 7 rfl rfl)
theorem dX4_buyer_58 : decode cX4_buyer 58 = .ok (.iload_n 2, 1) := dk_28 (dk_at dksX4_buyer_2 10 rfl rfl)
theorem dX4_buyer_59 : decode cX4_buyer 59 = .ok (.iastore, 1) := dk_79 (dk_at dksX4_buyer_2 11 rfl rfl)
theorem dX4_buyer_60 : decode cX4_buyer 60 = .ok (.aload_n 0, 1) := dk_42 (dk_at dksX4_buyer_2 12 rfl rfl)
theorem dX4_buyer_61 : decode cX4_buyer 61 = .ok (.getfield 195, 3) := dk_180 0 195 (dk_at dksX4_buyer_2 13 rfl rfl)
theorem dX4_buyer_64 : decode cX4_buyer 64 = .ok (.aload_n 0, 1) := dk_42 (dk_at dksX4_buyer_2 16 rfl rfl)
theorem dX4_buyer_65 : decode cX4_buyer 65 = .ok (.getfield 516, 3) := dk_180 2 4 (dk_at dksX4_buyer_2 17 rfl rfl)
theorem dX4_buyer_68 : decode cX4_buyer 68 = .ok (.iload_n 3, 1) := dk_29 (dk_at dksX4_buyer_2 20 rfl rfl)
theorem dX4_buyer_69 : decode cX4_buyer 69 = .ok (.iastore, 1) := dk_79 (dk_at dksX4_buyer_2 21 rfl rfl)
theorem dX4_buyer_70 : decode cX4_buyer 70 = .ok (.aload_n 0, 1) := dk_42 (dk_at dksX4_buyer_2 22 rfl rfl)
theorem dX4_buyer_71 : decode cX4_buyer 71 = .ok (.getfield 198, 3) := dk_180 0 198 (dk_at dksX4_buyer_3 0 rfl rfl)
theorem dX4_buyer_74 : decode cX4_buyer 74 = .ok (.aload_n 0, 1) := dk_42 (dk_at dksX4_buyer_3 3 rfl rfl)
theorem dX4_buyer_75 : decode cX4_buyer 75 = .ok (.getfield 516, 3) := dk_180 2 4 (dk_at dksX4_buyer_3 4 rfl rfl)
theorem dX4_buyer_78 : decode cX4_buyer 78 = .ok (.iload 4, 2) := dk_21 4 (dk_at dksX4_buyer_3 7 rfl rfl)
theorem dX4_buyer_80 : decode cX4_buyer 80 = .ok (.iastore, 1) := dk_79 (dk_at dksX4_buyer_3 9 rfl rfl)
theorem dX4_buyer_81 : decode cX4_buyer 81 = .ok (.aload_n 0, 1) := dk_42 (dk_at dksX4_buyer_3 10 rfl rfl)
theorem dX4_buyer_82 : decode cX4_buyer 82 = .ok (.dup, 1) := dk_89 (dk_at dksX4_buyer_3 11 rfl rfl)
theorem dX4_buyer_83 : decode cX4_buyer 83 = .ok (.getfield 516, 3) := dk_180 2 4 (dk_at dksX4_buyer_3 12 rfl rfl)
theorem dX4_buyer_86 : decode cX4_buyer 86 = .ok (.iconst 1, 1) := dk_4 (dk_at dksX4_buyer_3 15 rfl rfl)
theorem dX4_buyer_87 : decode cX4_buyer 87 = .ok (.iadd, 1) := dk_96 (dk_at dksX4_buyer_3 16 rfl rfl)
theorem dX4_buyer_88 : decode cX4_buyer 88 = .ok (.putfield 516, 3) := dk_181 2 4 (dk_at dksX4_buyer_3 17 rfl rfl)
theorem dX4_buyer_91 : decode cX4_buyer 91 = .ok (.aload_n 0, 1) := dk_42 (dk_at dksX4_buyer_3 20 rfl rfl)
theorem dX4_buyer_92 : decode cX4_buyer 92 = .ok (.getfield 516, 3) := dk_180 2 4 (dk_at dksX4_buyer_3 21 rfl rfl)
theorem dX4_buyer_95 : decode cX4_buyer 95 = .ok (.iconst 1, 1) := dk_4 (dk_at dksX4_buyer_4 0 rfl rfl)
theorem dX4_buyer_96 : decode cX4_buyer 96 = .ok (.isub, 1) := dk_100 (dk_at dksX4_buyer_4 1 rfl rfl)
theorem dX4_buyer_97 : decode cX4_buyer 97 = .ok (.ireturn, 1) := dk_172 (dk_at dksX4_buyer_4 2 rfl rfl)
abbrev cX4_sale : ByteArray := prog_23_method_82_code
def yX4_sale : MethodName := ⟨RX4, "sale", "(I)I"⟩
def dkwX4_sale_3 : List UInt8 := [167, 255, 225, 2, 172]
abbrev dktX4_sale_3 : List UInt8 := dkwX4_sale_3 ++ []
def dkwX4_sale_2 : List UInt8 := [180, 0, 201, 28, 46, 27, 16, 10, 100, 160, 0, 10, 42, 180, 0, 207, 28, 46, 172, 132, 2, 1]
abbrev dktX4_sale_2 : List UInt8 := dkwX4_sale_2 ++ dktX4_sale_3
def dkwX4_sale_1 : List UInt8 := [160, 0, 10, 42, 180, 2, 16, 167, 0, 4, 2, 172, 3, 61, 28, 42, 180, 2, 7, 162, 0, 29, 42]
abbrev dktX4_sale_1 : List UInt8 := dkwX4_sale_1 ++ dktX4_sale_2
def dkwX4_sale_0 : List UInt8 := [42, 182, 2, 19, 27, 5, 162, 0, 28, 27, 154, 0, 10, 42, 180, 2, 10, 167, 0, 16, 27, 4]
abbrev dktX4_sale_0 : List UInt8 := dkwX4_sale_0 ++ dktX4_sale_1
theorem dksX4_sale_0 : cX4_sale.data.toList.drop 0 = dktX4_sale_0 := by decide +kernel
theorem dksX4_sale_1 : cX4_sale.data.toList.drop 22 = dktX4_sale_1 := dk_seg dksX4_sale_0 22 rfl rfl
theorem dksX4_sale_2 : cX4_sale.data.toList.drop 45 = dktX4_sale_2 := dk_seg dksX4_sale_1 23 rfl rfl
theorem dksX4_sale_3 : cX4_sale.data.toList.drop 67 = dktX4_sale_3 := dk_seg dksX4_sale_2 22 rfl rfl
theorem dX4_sale_0 : decode cX4_sale 0 = .ok (.aload_n 0, 1) := dk_42 (dk_at dksX4_sale_0 0 rfl rfl)
theorem dX4_sale_1 : decode cX4_sale 1 = .ok (.invokevirtual 531, 3) := dk_182 2 19 (dk_at dksX4_sale_0 1 rfl rfl)
theorem dX4_sale_4 : decode cX4_sale 4 = .ok (.iload_n 1, 1) := dk_27 (dk_at dksX4_sale_0 4 rfl rfl)
theorem dX4_sale_5 : decode cX4_sale 5 = .ok (.iconst 2, 1) := dk_5 (dk_at dksX4_sale_0 5 rfl rfl)
theorem dX4_sale_6 : decode cX4_sale 6 = .ok (.if_icmp .ge 28, 3) := dk_162 0 28 (dk_at dksX4_sale_0 6 rfl rfl)
theorem dX4_sale_9 : decode cX4_sale 9 = .ok (.iload_n 1, 1) := dk_27 (dk_at dksX4_sale_0 9 rfl rfl)
theorem dX4_sale_10 : decode cX4_sale 10 = .ok (.ifCond .ne 10, 3) := dk_154 0 10 (dk_at dksX4_sale_0 10 rfl rfl)
theorem dX4_sale_13 : decode cX4_sale 13 = .ok (.aload_n 0, 1) := dk_42 (dk_at dksX4_sale_0 13 rfl rfl)
theorem dX4_sale_14 : decode cX4_sale 14 = .ok (.getfield 522, 3) := dk_180 2 10 (dk_at dksX4_sale_0 14 rfl rfl)
theorem dX4_sale_17 : decode cX4_sale 17 = .ok (.goto 16, 3) := dk_167 0 16 (dk_at dksX4_sale_0 17 rfl rfl)
theorem dX4_sale_20 : decode cX4_sale 20 = .ok (.iload_n 1, 1) := dk_27 (dk_at dksX4_sale_0 20 rfl rfl)
theorem dX4_sale_21 : decode cX4_sale 21 = .ok (.iconst 1, 1) := dk_4 (dk_at dksX4_sale_0 21 rfl rfl)
theorem dX4_sale_22 : decode cX4_sale 22 = .ok (.if_icmp .ne 10, 3) := dk_160 0 10 (dk_at dksX4_sale_1 0 rfl rfl)
theorem dX4_sale_25 : decode cX4_sale 25 = .ok (.aload_n 0, 1) := dk_42 (dk_at dksX4_sale_1 3 rfl rfl)
theorem dX4_sale_26 : decode cX4_sale 26 = .ok (.getfield 528, 3) := dk_180 2 16 (dk_at dksX4_sale_1 4 rfl rfl)
theorem dX4_sale_29 : decode cX4_sale 29 = .ok (.goto 4, 3) := dk_167 0 4 (dk_at dksX4_sale_1 7 rfl rfl)
theorem dX4_sale_32 : decode cX4_sale 32 = .ok (.iconst (-1), 1) := dk_2 (dk_at dksX4_sale_1 10 rfl rfl)
theorem dX4_sale_33 : decode cX4_sale 33 = .ok (.ireturn, 1) := dk_172 (dk_at dksX4_sale_1 11 rfl rfl)
theorem dX4_sale_34 : decode cX4_sale 34 = .ok (.iconst 0, 1) := dk_3 (dk_at dksX4_sale_1 12 rfl rfl)
theorem dX4_sale_35 : decode cX4_sale 35 = .ok (.istore_n 2, 1) := dk_61 (dk_at dksX4_sale_1 13 rfl rfl)
theorem dX4_sale_36 : decode cX4_sale 36 = .ok (.iload_n 2, 1) := dk_28 (dk_at dksX4_sale_1 14 rfl rfl)
theorem dX4_sale_37 : decode cX4_sale 37 = .ok (.aload_n 0, 1) := dk_42 (dk_at dksX4_sale_1 15 rfl rfl)
theorem dX4_sale_38 : decode cX4_sale 38 = .ok (.getfield 519, 3) := dk_180 2 7 (dk_at dksX4_sale_1 16 rfl rfl)
theorem dX4_sale_41 : decode cX4_sale 41 = .ok (.if_icmp .ge 29, 3) := dk_162 0 29 (dk_at dksX4_sale_1 19 rfl rfl)
theorem dX4_sale_44 : decode cX4_sale 44 = .ok (.aload_n 0, 1) := dk_42 (dk_at dksX4_sale_1 22 rfl rfl)
theorem dX4_sale_45 : decode cX4_sale 45 = .ok (.getfield 201, 3) := dk_180 0 201 (dk_at dksX4_sale_2 0 rfl rfl)
theorem dX4_sale_48 : decode cX4_sale 48 = .ok (.iload_n 2, 1) := dk_28 (dk_at dksX4_sale_2 3 rfl rfl)
theorem dX4_sale_49 : decode cX4_sale 49 = .ok (.iaload, 1) := dk_46 (dk_at dksX4_sale_2 4 rfl rfl)
theorem dX4_sale_50 : decode cX4_sale 50 = .ok (.iload_n 1, 1) := dk_27 (dk_at dksX4_sale_2 5 rfl rfl)
theorem dX4_sale_51 : decode cX4_sale 51 = .ok (.bipush 10, 2) := dk_16 10 (dk_at dksX4_sale_2 6 rfl rfl)
theorem dX4_sale_53 : decode cX4_sale 53 = .ok (.isub, 1) := dk_100 (dk_at dksX4_sale_2 8 rfl rfl)
theorem dX4_sale_54 : decode cX4_sale 54 = .ok (.if_icmp .ne 10, 3) := dk_160 0 10 (dk_at dksX4_sale_2 9 rfl rfl)
theorem dX4_sale_57 : decode cX4_sale 57 = .ok (.aload_n 0, 1) := dk_42 (dk_at dksX4_sale_2 12 rfl rfl)
theorem dX4_sale_58 : decode cX4_sale 58 = .ok (.getfield 207, 3) := dk_180 0 207 (dk_at dksX4_sale_2 13 rfl rfl)
theorem dX4_sale_61 : decode cX4_sale 61 = .ok (.iload_n 2, 1) := dk_28 (dk_at dksX4_sale_2 16 rfl rfl)
theorem dX4_sale_62 : decode cX4_sale 62 = .ok (.iaload, 1) := dk_46 (dk_at dksX4_sale_2 17 rfl rfl)
theorem dX4_sale_63 : decode cX4_sale 63 = .ok (.ireturn, 1) := dk_172 (dk_at dksX4_sale_2 18 rfl rfl)
theorem dX4_sale_64 : decode cX4_sale 64 = .ok (.iinc 2 1, 3) := dk_132 2 1 (dk_at dksX4_sale_2 19 rfl rfl)
theorem dX4_sale_67 : decode cX4_sale 67 = .ok (.goto (-31), 3) := dk_167 255 225 (dk_at dksX4_sale_3 0 rfl rfl)
theorem dX4_sale_70 : decode cX4_sale 70 = .ok (.iconst (-1), 1) := dk_2 (dk_at dksX4_sale_3 3 rfl rfl)
theorem dX4_sale_71 : decode cX4_sale 71 = .ok (.ireturn, 1) := dk_172 (dk_at dksX4_sale_3 4 rfl rfl)
abbrev cX4_sales : ByteArray := prog_23_method_80_code
def yX4_sales : MethodName := ⟨RX4, "sales", "()V"⟩
def dkwX4_sales_3 : List UInt8 := [162, 0, 16, 42, 180, 0, 210, 27, 3, 79, 132, 1, 1, 167, 255, 241, 42, 3, 3, 3, 182, 2, 13, 177]
abbrev dktX4_sales_3 : List UInt8 := dkwX4_sales_3 ++ []
def dkwX4_sales_2 : List UInt8 := [180, 2, 7, 4, 96, 181, 2, 7, 132, 1, 1, 167, 255, 204, 42, 2, 181, 2, 10, 3, 60, 27, 7]
abbrev dktX4_sales_2 : List UInt8 := dkwX4_sales_2 ++ dktX4_sales_3
def dkwX4_sales_1 : List UInt8 := [42, 180, 0, 183, 27, 51, 154, 0, 6, 167, 0, 23, 42, 180, 0, 201, 42, 180, 2, 7, 27, 79, 42, 89]
abbrev dktX4_sales_1 : List UInt8 := dkwX4_sales_1 ++ dktX4_sales_2
def dkwX4_sales_0 : List UInt8 := [42, 3, 181, 2, 7, 3, 60, 27, 42, 180, 1, 32, 162, 0, 50, 42, 180, 2, 7, 16, 8, 162, 0, 41]
abbrev dktX4_sales_0 : List UInt8 := dkwX4_sales_0 ++ dktX4_sales_1
theorem dksX4_sales_0 : cX4_sales.data.toList.drop 0 = dktX4_sales_0 := by decide +kernel
theorem dksX4_sales_1 : cX4_sales.data.toList.drop 24 = dktX4_sales_1 := dk_seg dksX4_sales_0 24 rfl rfl
theorem dksX4_sales_2 : cX4_sales.data.toList.drop 48 = dktX4_sales_2 := dk_seg dksX4_sales_1 24 rfl rfl
theorem dksX4_sales_3 : cX4_sales.data.toList.drop 71 = dktX4_sales_3 := dk_seg dksX4_sales_2 23 rfl rfl
theorem dX4_sales_0 : decode cX4_sales 0 = .ok (.aload_n 0, 1) := dk_42 (dk_at dksX4_sales_0 0 rfl rfl)
theorem dX4_sales_1 : decode cX4_sales 1 = .ok (.iconst 0, 1) := dk_3 (dk_at dksX4_sales_0 1 rfl rfl)
theorem dX4_sales_2 : decode cX4_sales 2 = .ok (.putfield 519, 3) := dk_181 2 7 (dk_at dksX4_sales_0 2 rfl rfl)
theorem dX4_sales_5 : decode cX4_sales 5 = .ok (.iconst 0, 1) := dk_3 (dk_at dksX4_sales_0 5 rfl rfl)
theorem dX4_sales_6 : decode cX4_sales 6 = .ok (.istore_n 1, 1) := dk_60 (dk_at dksX4_sales_0 6 rfl rfl)
theorem dX4_sales_7 : decode cX4_sales 7 = .ok (.iload_n 1, 1) := dk_27 (dk_at dksX4_sales_0 7 rfl rfl)
theorem dX4_sales_8 : decode cX4_sales 8 = .ok (.aload_n 0, 1) := dk_42 (dk_at dksX4_sales_0 8 rfl rfl)
theorem dX4_sales_9 : decode cX4_sales 9 = .ok (.getfield 288, 3) := dk_180 1 32 (dk_at dksX4_sales_0 9 rfl rfl)
theorem dX4_sales_12 : decode cX4_sales 12 = .ok (.if_icmp .ge 50, 3) := dk_162 0 50 (dk_at dksX4_sales_0 12 rfl rfl)
theorem dX4_sales_15 : decode cX4_sales 15 = .ok (.aload_n 0, 1) := dk_42 (dk_at dksX4_sales_0 15 rfl rfl)
theorem dX4_sales_16 : decode cX4_sales 16 = .ok (.getfield 519, 3) := dk_180 2 7 (dk_at dksX4_sales_0 16 rfl rfl)
theorem dX4_sales_19 : decode cX4_sales 19 = .ok (.bipush 8, 2) := dk_16 8 (dk_at dksX4_sales_0 19 rfl rfl)
theorem dX4_sales_21 : decode cX4_sales 21 = .ok (.if_icmp .ge 41, 3) := dk_162 0 41 (dk_at dksX4_sales_0 21 rfl rfl)
theorem dX4_sales_24 : decode cX4_sales 24 = .ok (.aload_n 0, 1) := dk_42 (dk_at dksX4_sales_1 0 rfl rfl)
theorem dX4_sales_25 : decode cX4_sales 25 = .ok (.getfield 183, 3) := dk_180 0 183 (dk_at dksX4_sales_1 1 rfl rfl)
theorem dX4_sales_28 : decode cX4_sales 28 = .ok (.iload_n 1, 1) := dk_27 (dk_at dksX4_sales_1 4 rfl rfl)
theorem dX4_sales_29 : decode cX4_sales 29 = .ok (.baload, 1) := dk_51 (dk_at dksX4_sales_1 5 rfl rfl)
theorem dX4_sales_30 : decode cX4_sales 30 = .ok (.ifCond .ne 6, 3) := dk_154 0 6 (dk_at dksX4_sales_1 6 rfl rfl)
theorem dX4_sales_33 : decode cX4_sales 33 = .ok (.goto 23, 3) := dk_167 0 23 (dk_at dksX4_sales_1 9 rfl rfl)
theorem dX4_sales_36 : decode cX4_sales 36 = .ok (.aload_n 0, 1) := dk_42 (dk_at dksX4_sales_1 12 rfl rfl)
theorem dX4_sales_37 : decode cX4_sales 37 = .ok (.getfield 201, 3) := dk_180 0 201 (dk_at dksX4_sales_1 13 rfl rfl)
theorem dX4_sales_40 : decode cX4_sales 40 = .ok (.aload_n 0, 1) := dk_42 (dk_at dksX4_sales_1 16 rfl rfl)
theorem dX4_sales_41 : decode cX4_sales 41 = .ok (.getfield 519, 3) := dk_180 2 7 (dk_at dksX4_sales_1 17 rfl rfl)
theorem dX4_sales_44 : decode cX4_sales 44 = .ok (.iload_n 1, 1) := dk_27 (dk_at dksX4_sales_1 20 rfl rfl)
theorem dX4_sales_45 : decode cX4_sales 45 = .ok (.iastore, 1) := dk_79 (dk_at dksX4_sales_1 21 rfl rfl)
theorem dX4_sales_46 : decode cX4_sales 46 = .ok (.aload_n 0, 1) := dk_42 (dk_at dksX4_sales_1 22 rfl rfl)
theorem dX4_sales_47 : decode cX4_sales 47 = .ok (.dup, 1) := dk_89 (dk_at dksX4_sales_1 23 rfl rfl)
theorem dX4_sales_48 : decode cX4_sales 48 = .ok (.getfield 519, 3) := dk_180 2 7 (dk_at dksX4_sales_2 0 rfl rfl)
theorem dX4_sales_51 : decode cX4_sales 51 = .ok (.iconst 1, 1) := dk_4 (dk_at dksX4_sales_2 3 rfl rfl)
theorem dX4_sales_52 : decode cX4_sales 52 = .ok (.iadd, 1) := dk_96 (dk_at dksX4_sales_2 4 rfl rfl)
theorem dX4_sales_53 : decode cX4_sales 53 = .ok (.putfield 519, 3) := dk_181 2 7 (dk_at dksX4_sales_2 5 rfl rfl)
theorem dX4_sales_56 : decode cX4_sales 56 = .ok (.iinc 1 1, 3) := dk_132 1 1 (dk_at dksX4_sales_2 8 rfl rfl)
theorem dX4_sales_59 : decode cX4_sales 59 = .ok (.goto (-52), 3) := dk_167 255 204 (dk_at dksX4_sales_2 11 rfl rfl)
theorem dX4_sales_62 : decode cX4_sales 62 = .ok (.aload_n 0, 1) := dk_42 (dk_at dksX4_sales_2 14 rfl rfl)
theorem dX4_sales_63 : decode cX4_sales 63 = .ok (.iconst (-1), 1) := dk_2 (dk_at dksX4_sales_2 15 rfl rfl)
theorem dX4_sales_64 : decode cX4_sales 64 = .ok (.putfield 522, 3) := dk_181 2 10 (dk_at dksX4_sales_2 16 rfl rfl)
theorem dX4_sales_67 : decode cX4_sales 67 = .ok (.iconst 0, 1) := dk_3 (dk_at dksX4_sales_2 19 rfl rfl)
theorem dX4_sales_68 : decode cX4_sales 68 = .ok (.istore_n 1, 1) := dk_60 (dk_at dksX4_sales_2 20 rfl rfl)
theorem dX4_sales_69 : decode cX4_sales 69 = .ok (.iload_n 1, 1) := dk_27 (dk_at dksX4_sales_2 21 rfl rfl)
theorem dX4_sales_70 : decode cX4_sales 70 = .ok (.iconst 4, 1) := dk_7 (dk_at dksX4_sales_2 22 rfl rfl)
theorem dX4_sales_71 : decode cX4_sales 71 = .ok (.if_icmp .ge 16, 3) := dk_162 0 16 (dk_at dksX4_sales_3 0 rfl rfl)
theorem dX4_sales_74 : decode cX4_sales 74 = .ok (.aload_n 0, 1) := dk_42 (dk_at dksX4_sales_3 3 rfl rfl)
theorem dX4_sales_75 : decode cX4_sales 75 = .ok (.getfield 210, 3) := dk_180 0 210 (dk_at dksX4_sales_3 4 rfl rfl)
theorem dX4_sales_78 : decode cX4_sales 78 = .ok (.iload_n 1, 1) := dk_27 (dk_at dksX4_sales_3 7 rfl rfl)
theorem dX4_sales_79 : decode cX4_sales 79 = .ok (.iconst 0, 1) := dk_3 (dk_at dksX4_sales_3 8 rfl rfl)
theorem dX4_sales_80 : decode cX4_sales 80 = .ok (.iastore, 1) := dk_79 (dk_at dksX4_sales_3 9 rfl rfl)
theorem dX4_sales_81 : decode cX4_sales 81 = .ok (.iinc 1 1, 3) := dk_132 1 1 (dk_at dksX4_sales_3 10 rfl rfl)
theorem dX4_sales_84 : decode cX4_sales 84 = .ok (.goto (-15), 3) := dk_167 255 241 (dk_at dksX4_sales_3 13 rfl rfl)
theorem dX4_sales_87 : decode cX4_sales 87 = .ok (.aload_n 0, 1) := dk_42 (dk_at dksX4_sales_3 16 rfl rfl)
theorem dX4_sales_88 : decode cX4_sales 88 = .ok (.iconst 0, 1) := dk_3 (dk_at dksX4_sales_3 17 rfl rfl)
theorem dX4_sales_89 : decode cX4_sales 89 = .ok (.iconst 0, 1) := dk_3 (dk_at dksX4_sales_3 18 rfl rfl)
theorem dX4_sales_90 : decode cX4_sales 90 = .ok (.iconst 0, 1) := dk_3 (dk_at dksX4_sales_3 19 rfl rfl)
theorem dX4_sales_91 : decode cX4_sales 91 = .ok (.invokevirtual 525, 3) := dk_182 2 13 (dk_at dksX4_sales_3 20 rfl rfl)
theorem dX4_sales_94 : decode cX4_sales 94 = .ok (.return_, 1) := dk_177 (dk_at dksX4_sales_3 23 rfl rfl)
abbrev cX4_offers : ByteArray := prog_23_method_81_code
def yX4_offers : MethodName := ⟨RX4, "offers", "(III)V"⟩
def dkwX4_offers_10 : List UInt8 := [180, 0, 204, 27, 2, 79, 42, 27, 4, 96, 28, 29, 182, 2, 13, 177]
abbrev dktX4_offers_10 : List UInt8 := dkwX4_offers_10 ++ []
def dkwX4_offers_9 : List UInt8 := [180, 0, 210, 21, 5, 92, 46, 42, 180, 0, 153, 21, 4, 46, 100, 79, 132, 5, 1, 167, 255, 113, 42]
abbrev dktX4_offers_9 : List UInt8 := dkwX4_offers_9 ++ dktX4_offers_10
def dkwX4_offers_8 : List UInt8 := [180, 0, 195, 21, 5, 46, 42, 180, 0, 153, 21, 4, 46, 104, 96, 29, 4, 96, 182, 2, 13, 42]
abbrev dktX4_offers_8 : List UInt8 := dkwX4_offers_8 ++ dktX4_offers_9
def dkwX4_offers_7 : List UInt8 := [180, 0, 153, 21, 4, 46, 96, 79, 42, 180, 0, 204, 27, 21, 5, 79, 42, 27, 4, 96, 28, 42]
abbrev dktX4_offers_7 : List UInt8 := dkwX4_offers_7 ++ dktX4_offers_8
def dkwX4_offers_6 : List UInt8 := [96, 42, 180, 0, 198, 21, 5, 46, 164, 0, 6, 167, 0, 72, 42, 180, 0, 210, 21, 5, 92, 46, 42]
abbrev dktX4_offers_6 : List UInt8 := dkwX4_offers_6 ++ dktX4_offers_7
def dkwX4_offers_5 : List UInt8 := [42, 180, 0, 192, 21, 5, 46, 163, 0, 100, 42, 180, 0, 210, 21, 5, 46, 42, 180, 0, 153, 21, 4, 46]
abbrev dktX4_offers_5 : List UInt8 := dkwX4_offers_5 ++ dktX4_offers_6
def dkwX4_offers_4 : List UInt8 := [42, 180, 0, 156, 21, 4, 46, 42, 180, 0, 189, 21, 5, 46, 161, 0, 117, 42, 180, 0, 159, 21, 4, 46]
abbrev dktX4_offers_4 : List UInt8 := dkwX4_offers_4 ++ dktX4_offers_5
def dkwX4_offers_3 : List UInt8 := [167, 255, 230, 177, 42, 180, 0, 201, 27, 46, 54, 4, 3, 54, 5, 21, 5, 42, 180, 2, 4, 162, 0, 140]
abbrev dktX4_offers_3 : List UInt8 := dkwX4_offers_3 ++ dktX4_offers_4
def dkwX4_offers_2 : List UInt8 := [42, 180, 2, 7, 162, 0, 23, 42, 180, 0, 207, 21, 4, 42, 180, 0, 204, 21, 4, 46, 79, 132, 4, 1]
abbrev dktX4_offers_2 : List UInt8 := dkwX4_offers_2 ++ dktX4_offers_3
def dkwX4_offers_1 : List UInt8 := [29, 42, 180, 2, 16, 161, 0, 4, 177, 42, 28, 181, 2, 10, 42, 29, 181, 2, 16, 3, 54, 4, 21, 4]
abbrev dktX4_offers_1 : List UInt8 := dkwX4_offers_1 ++ dktX4_offers_2
def dkwX4_offers_0 : List UInt8 := [27, 42, 180, 2, 7, 160, 0, 71, 28, 42, 180, 2, 10, 161, 0, 19, 28, 42, 180, 2, 10, 160, 0, 12]
abbrev dktX4_offers_0 : List UInt8 := dkwX4_offers_0 ++ dktX4_offers_1
theorem dksX4_offers_0 : cX4_offers.data.toList.drop 0 = dktX4_offers_0 := by decide +kernel
theorem dksX4_offers_1 : cX4_offers.data.toList.drop 24 = dktX4_offers_1 := dk_seg dksX4_offers_0 24 rfl rfl
theorem dksX4_offers_2 : cX4_offers.data.toList.drop 48 = dktX4_offers_2 := dk_seg dksX4_offers_1 24 rfl rfl
theorem dksX4_offers_3 : cX4_offers.data.toList.drop 72 = dktX4_offers_3 := dk_seg dksX4_offers_2 24 rfl rfl
theorem dksX4_offers_4 : cX4_offers.data.toList.drop 96 = dktX4_offers_4 := dk_seg dksX4_offers_3 24 rfl rfl
theorem dksX4_offers_5 : cX4_offers.data.toList.drop 120 = dktX4_offers_5 := dk_seg dksX4_offers_4 24 rfl rfl
theorem dksX4_offers_6 : cX4_offers.data.toList.drop 144 = dktX4_offers_6 := dk_seg dksX4_offers_5 24 rfl rfl
theorem dksX4_offers_7 : cX4_offers.data.toList.drop 167 = dktX4_offers_7 := dk_seg dksX4_offers_6 23 rfl rfl
theorem dksX4_offers_8 : cX4_offers.data.toList.drop 189 = dktX4_offers_8 := dk_seg dksX4_offers_7 22 rfl rfl
theorem dksX4_offers_9 : cX4_offers.data.toList.drop 211 = dktX4_offers_9 := dk_seg dksX4_offers_8 22 rfl rfl
theorem dksX4_offers_10 : cX4_offers.data.toList.drop 234 = dktX4_offers_10 := dk_seg dksX4_offers_9 23 rfl rfl
theorem dX4_offers_0 : decode cX4_offers 0 = .ok (.iload_n 1, 1) := dk_27 (dk_at dksX4_offers_0 0 rfl rfl)
theorem dX4_offers_1 : decode cX4_offers 1 = .ok (.aload_n 0, 1) := dk_42 (dk_at dksX4_offers_0 1 rfl rfl)
theorem dX4_offers_2 : decode cX4_offers 2 = .ok (.getfield 519, 3) := dk_180 2 7 (dk_at dksX4_offers_0 2 rfl rfl)
theorem dX4_offers_5 : decode cX4_offers 5 = .ok (.if_icmp .ne 71, 3) := dk_160 0 71 (dk_at dksX4_offers_0 5 rfl rfl)
theorem dX4_offers_8 : decode cX4_offers 8 = .ok (.iload_n 2, 1) := dk_28 (dk_at dksX4_offers_0 8 rfl rfl)
theorem dX4_offers_9 : decode cX4_offers 9 = .ok (.aload_n 0, 1) := dk_42 (dk_at dksX4_offers_0 9 rfl rfl)
theorem dX4_offers_10 : decode cX4_offers 10 = .ok (.getfield 522, 3) := dk_180 2 10 (dk_at dksX4_offers_0 10 rfl rfl)
theorem dX4_offers_13 : decode cX4_offers 13 = .ok (.if_icmp .lt 19, 3) := dk_161 0 19 (dk_at dksX4_offers_0 13 rfl rfl)
theorem dX4_offers_16 : decode cX4_offers 16 = .ok (.iload_n 2, 1) := dk_28 (dk_at dksX4_offers_0 16 rfl rfl)
theorem dX4_offers_17 : decode cX4_offers 17 = .ok (.aload_n 0, 1) := dk_42 (dk_at dksX4_offers_0 17 rfl rfl)
theorem dX4_offers_18 : decode cX4_offers 18 = .ok (.getfield 522, 3) := dk_180 2 10 (dk_at dksX4_offers_0 18 rfl rfl)
theorem dX4_offers_21 : decode cX4_offers 21 = .ok (.if_icmp .ne 12, 3) := dk_160 0 12 (dk_at dksX4_offers_0 21 rfl rfl)
theorem dX4_offers_24 : decode cX4_offers 24 = .ok (.iload_n 3, 1) := dk_29 (dk_at dksX4_offers_1 0 rfl rfl)
theorem dX4_offers_25 : decode cX4_offers 25 = .ok (.aload_n 0, 1) := dk_42 (dk_at dksX4_offers_1 1 rfl rfl)
theorem dX4_offers_26 : decode cX4_offers 26 = .ok (.getfield 528, 3) := dk_180 2 16 (dk_at dksX4_offers_1 2 rfl rfl)
theorem dX4_offers_29 : decode cX4_offers 29 = .ok (.if_icmp .lt 4, 3) := dk_161 0 4 (dk_at dksX4_offers_1 5 rfl rfl)
theorem dX4_offers_32 : decode cX4_offers 32 = .ok (.return_, 1) := dk_177 (dk_at dksX4_offers_1 8 rfl rfl)
theorem dX4_offers_33 : decode cX4_offers 33 = .ok (.aload_n 0, 1) := dk_42 (dk_at dksX4_offers_1 9 rfl rfl)
theorem dX4_offers_34 : decode cX4_offers 34 = .ok (.iload_n 2, 1) := dk_28 (dk_at dksX4_offers_1 10 rfl rfl)
theorem dX4_offers_35 : decode cX4_offers 35 = .ok (.putfield 522, 3) := dk_181 2 10 (dk_at dksX4_offers_1 11 rfl rfl)
theorem dX4_offers_38 : decode cX4_offers 38 = .ok (.aload_n 0, 1) := dk_42 (dk_at dksX4_offers_1 14 rfl rfl)
theorem dX4_offers_39 : decode cX4_offers 39 = .ok (.iload_n 3, 1) := dk_29 (dk_at dksX4_offers_1 15 rfl rfl)
theorem dX4_offers_40 : decode cX4_offers 40 = .ok (.putfield 528, 3) := dk_181 2 16 (dk_at dksX4_offers_1 16 rfl rfl)
theorem dX4_offers_43 : decode cX4_offers 43 = .ok (.iconst 0, 1) := dk_3 (dk_at dksX4_offers_1 19 rfl rfl)
theorem dX4_offers_44 : decode cX4_offers 44 = .ok (.istore 4, 2) := dk_54 4 (dk_at dksX4_offers_1 20 rfl rfl)
theorem dX4_offers_46 : decode cX4_offers 46 = .ok (.iload 4, 2) := dk_21 4 (dk_at dksX4_offers_1 22 rfl rfl)
theorem dX4_offers_48 : decode cX4_offers 48 = .ok (.aload_n 0, 1) := dk_42 (dk_at dksX4_offers_2 0 rfl rfl)
theorem dX4_offers_49 : decode cX4_offers 49 = .ok (.getfield 519, 3) := dk_180 2 7 (dk_at dksX4_offers_2 1 rfl rfl)
theorem dX4_offers_52 : decode cX4_offers 52 = .ok (.if_icmp .ge 23, 3) := dk_162 0 23 (dk_at dksX4_offers_2 4 rfl rfl)
theorem dX4_offers_55 : decode cX4_offers 55 = .ok (.aload_n 0, 1) := dk_42 (dk_at dksX4_offers_2 7 rfl rfl)
theorem dX4_offers_56 : decode cX4_offers 56 = .ok (.getfield 207, 3) := dk_180 0 207 (dk_at dksX4_offers_2 8 rfl rfl)
theorem dX4_offers_59 : decode cX4_offers 59 = .ok (.iload 4, 2) := dk_21 4 (dk_at dksX4_offers_2 11 rfl rfl)
theorem dX4_offers_61 : decode cX4_offers 61 = .ok (.aload_n 0, 1) := dk_42 (dk_at dksX4_offers_2 13 rfl rfl)
theorem dX4_offers_62 : decode cX4_offers 62 = .ok (.getfield 204, 3) := dk_180 0 204 (dk_at dksX4_offers_2 14 rfl rfl)
theorem dX4_offers_65 : decode cX4_offers 65 = .ok (.iload 4, 2) := dk_21 4 (dk_at dksX4_offers_2 17 rfl rfl)
theorem dX4_offers_67 : decode cX4_offers 67 = .ok (.iaload, 1) := dk_46 (dk_at dksX4_offers_2 19 rfl rfl)
theorem dX4_offers_68 : decode cX4_offers 68 = .ok (.iastore, 1) := dk_79 (dk_at dksX4_offers_2 20 rfl rfl)
theorem dX4_offers_69 : decode cX4_offers 69 = .ok (.iinc 4 1, 3) := dk_132 4 1 (dk_at dksX4_offers_2 21 rfl rfl)
theorem dX4_offers_72 : decode cX4_offers 72 = .ok (.goto (-26), 3) := dk_167 255 230 (dk_at dksX4_offers_3 0 rfl rfl)
theorem dX4_offers_75 : decode cX4_offers 75 = .ok (.return_, 1) := dk_177 (dk_at dksX4_offers_3 3 rfl rfl)
theorem dX4_offers_76 : decode cX4_offers 76 = .ok (.aload_n 0, 1) := dk_42 (dk_at dksX4_offers_3 4 rfl rfl)
theorem dX4_offers_77 : decode cX4_offers 77 = .ok (.getfield 201, 3) := dk_180 0 201 (dk_at dksX4_offers_3 5 rfl rfl)
theorem dX4_offers_80 : decode cX4_offers 80 = .ok (.iload_n 1, 1) := dk_27 (dk_at dksX4_offers_3 8 rfl rfl)
theorem dX4_offers_81 : decode cX4_offers 81 = .ok (.iaload, 1) := dk_46 (dk_at dksX4_offers_3 9 rfl rfl)
theorem dX4_offers_82 : decode cX4_offers 82 = .ok (.istore 4, 2) := dk_54 4 (dk_at dksX4_offers_3 10 rfl rfl)
theorem dX4_offers_84 : decode cX4_offers 84 = .ok (.iconst 0, 1) := dk_3 (dk_at dksX4_offers_3 12 rfl rfl)
theorem dX4_offers_85 : decode cX4_offers 85 = .ok (.istore 5, 2) := dk_54 5 (dk_at dksX4_offers_3 13 rfl rfl)
theorem dX4_offers_87 : decode cX4_offers 87 = .ok (.iload 5, 2) := dk_21 5 (dk_at dksX4_offers_3 15 rfl rfl)
theorem dX4_offers_89 : decode cX4_offers 89 = .ok (.aload_n 0, 1) := dk_42 (dk_at dksX4_offers_3 17 rfl rfl)
theorem dX4_offers_90 : decode cX4_offers 90 = .ok (.getfield 516, 3) := dk_180 2 4 (dk_at dksX4_offers_3 18 rfl rfl)
theorem dX4_offers_93 : decode cX4_offers 93 = .ok (.if_icmp .ge 140, 3) := dk_162 0 140 (dk_at dksX4_offers_3 21 rfl rfl)
theorem dX4_offers_96 : decode cX4_offers 96 = .ok (.aload_n 0, 1) := dk_42 (dk_at dksX4_offers_4 0 rfl rfl)
theorem dX4_offers_97 : decode cX4_offers 97 = .ok (.getfield 156, 3) := dk_180 0 156 (dk_at dksX4_offers_4 1 rfl rfl)
theorem dX4_offers_100 : decode cX4_offers 100 = .ok (.iload 4, 2) := dk_21 4 (dk_at dksX4_offers_4 4 rfl rfl)
theorem dX4_offers_102 : decode cX4_offers 102 = .ok (.iaload, 1) := dk_46 (dk_at dksX4_offers_4 6 rfl rfl)
theorem dX4_offers_103 : decode cX4_offers 103 = .ok (.aload_n 0, 1) := dk_42 (dk_at dksX4_offers_4 7 rfl rfl)
theorem dX4_offers_104 : decode cX4_offers 104 = .ok (.getfield 189, 3) := dk_180 0 189 (dk_at dksX4_offers_4 8 rfl rfl)
theorem dX4_offers_107 : decode cX4_offers 107 = .ok (.iload 5, 2) := dk_21 5 (dk_at dksX4_offers_4 11 rfl rfl)
theorem dX4_offers_109 : decode cX4_offers 109 = .ok (.iaload, 1) := dk_46 (dk_at dksX4_offers_4 13 rfl rfl)
theorem dX4_offers_110 : decode cX4_offers 110 = .ok (.if_icmp .lt 117, 3) := dk_161 0 117 (dk_at dksX4_offers_4 14 rfl rfl)
theorem dX4_offers_113 : decode cX4_offers 113 = .ok (.aload_n 0, 1) := dk_42 (dk_at dksX4_offers_4 17 rfl rfl)
theorem dX4_offers_114 : decode cX4_offers 114 = .ok (.getfield 159, 3) := dk_180 0 159 (dk_at dksX4_offers_4 18 rfl rfl)
theorem dX4_offers_117 : decode cX4_offers 117 = .ok (.iload 4, 2) := dk_21 4 (dk_at dksX4_offers_4 21 rfl rfl)
theorem dX4_offers_119 : decode cX4_offers 119 = .ok (.iaload, 1) := dk_46 (dk_at dksX4_offers_4 23 rfl rfl)
theorem dX4_offers_120 : decode cX4_offers 120 = .ok (.aload_n 0, 1) := dk_42 (dk_at dksX4_offers_5 0 rfl rfl)
theorem dX4_offers_121 : decode cX4_offers 121 = .ok (.getfield 192, 3) := dk_180 0 192 (dk_at dksX4_offers_5 1 rfl rfl)
theorem dX4_offers_124 : decode cX4_offers 124 = .ok (.iload 5, 2) := dk_21 5 (dk_at dksX4_offers_5 4 rfl rfl)
theorem dX4_offers_126 : decode cX4_offers 126 = .ok (.iaload, 1) := dk_46 (dk_at dksX4_offers_5 6 rfl rfl)
theorem dX4_offers_127 : decode cX4_offers 127 = .ok (.if_icmp .gt 100, 3) := dk_163 0 100 (dk_at dksX4_offers_5 7 rfl rfl)
theorem dX4_offers_130 : decode cX4_offers 130 = .ok (.aload_n 0, 1) := dk_42 (dk_at dksX4_offers_5 10 rfl rfl)
theorem dX4_offers_131 : decode cX4_offers 131 = .ok (.getfield 210, 3) := dk_180 0 210 (dk_at dksX4_offers_5 11 rfl rfl)
theorem dX4_offers_134 : decode cX4_offers 134 = .ok (.iload 5, 2) := dk_21 5 (dk_at dksX4_offers_5 14 rfl rfl)
theorem dX4_offers_136 : decode cX4_offers 136 = .ok (.iaload, 1) := dk_46 (dk_at dksX4_offers_5 16 rfl rfl)
theorem dX4_offers_137 : decode cX4_offers 137 = .ok (.aload_n 0, 1) := dk_42 (dk_at dksX4_offers_5 17 rfl rfl)
theorem dX4_offers_138 : decode cX4_offers 138 = .ok (.getfield 153, 3) := dk_180 0 153 (dk_at dksX4_offers_5 18 rfl rfl)
theorem dX4_offers_141 : decode cX4_offers 141 = .ok (.iload 4, 2) := dk_21 4 (dk_at dksX4_offers_5 21 rfl rfl)
theorem dX4_offers_143 : decode cX4_offers 143 = .ok (.iaload, 1) := dk_46 (dk_at dksX4_offers_5 23 rfl rfl)
theorem dX4_offers_144 : decode cX4_offers 144 = .ok (.iadd, 1) := dk_96 (dk_at dksX4_offers_6 0 rfl rfl)
theorem dX4_offers_145 : decode cX4_offers 145 = .ok (.aload_n 0, 1) := dk_42 (dk_at dksX4_offers_6 1 rfl rfl)
theorem dX4_offers_146 : decode cX4_offers 146 = .ok (.getfield 198, 3) := dk_180 0 198 (dk_at dksX4_offers_6 2 rfl rfl)
theorem dX4_offers_149 : decode cX4_offers 149 = .ok (.iload 5, 2) := dk_21 5 (dk_at dksX4_offers_6 5 rfl rfl)
theorem dX4_offers_151 : decode cX4_offers 151 = .ok (.iaload, 1) := dk_46 (dk_at dksX4_offers_6 7 rfl rfl)
theorem dX4_offers_152 : decode cX4_offers 152 = .ok (.if_icmp .le 6, 3) := dk_164 0 6 (dk_at dksX4_offers_6 8 rfl rfl)
theorem dX4_offers_155 : decode cX4_offers 155 = .ok (.goto 72, 3) := dk_167 0 72 (dk_at dksX4_offers_6 11 rfl rfl)
theorem dX4_offers_158 : decode cX4_offers 158 = .ok (.aload_n 0, 1) := dk_42 (dk_at dksX4_offers_6 14 rfl rfl)
theorem dX4_offers_159 : decode cX4_offers 159 = .ok (.getfield 210, 3) := dk_180 0 210 (dk_at dksX4_offers_6 15 rfl rfl)
theorem dX4_offers_162 : decode cX4_offers 162 = .ok (.iload 5, 2) := dk_21 5 (dk_at dksX4_offers_6 18 rfl rfl)
theorem dX4_offers_164 : decode cX4_offers 164 = .ok (.dup2, 1) := dk_92 (dk_at dksX4_offers_6 20 rfl rfl)
theorem dX4_offers_165 : decode cX4_offers 165 = .ok (.iaload, 1) := dk_46 (dk_at dksX4_offers_6 21 rfl rfl)
theorem dX4_offers_166 : decode cX4_offers 166 = .ok (.aload_n 0, 1) := dk_42 (dk_at dksX4_offers_6 22 rfl rfl)
theorem dX4_offers_167 : decode cX4_offers 167 = .ok (.getfield 153, 3) := dk_180 0 153 (dk_at dksX4_offers_7 0 rfl rfl)
theorem dX4_offers_170 : decode cX4_offers 170 = .ok (.iload 4, 2) := dk_21 4 (dk_at dksX4_offers_7 3 rfl rfl)
theorem dX4_offers_172 : decode cX4_offers 172 = .ok (.iaload, 1) := dk_46 (dk_at dksX4_offers_7 5 rfl rfl)
theorem dX4_offers_173 : decode cX4_offers 173 = .ok (.iadd, 1) := dk_96 (dk_at dksX4_offers_7 6 rfl rfl)
theorem dX4_offers_174 : decode cX4_offers 174 = .ok (.iastore, 1) := dk_79 (dk_at dksX4_offers_7 7 rfl rfl)
theorem dX4_offers_175 : decode cX4_offers 175 = .ok (.aload_n 0, 1) := dk_42 (dk_at dksX4_offers_7 8 rfl rfl)
theorem dX4_offers_176 : decode cX4_offers 176 = .ok (.getfield 204, 3) := dk_180 0 204 (dk_at dksX4_offers_7 9 rfl rfl)
theorem dX4_offers_179 : decode cX4_offers 179 = .ok (.iload_n 1, 1) := dk_27 (dk_at dksX4_offers_7 12 rfl rfl)
theorem dX4_offers_180 : decode cX4_offers 180 = .ok (.iload 5, 2) := dk_21 5 (dk_at dksX4_offers_7 13 rfl rfl)
theorem dX4_offers_182 : decode cX4_offers 182 = .ok (.iastore, 1) := dk_79 (dk_at dksX4_offers_7 15 rfl rfl)
theorem dX4_offers_183 : decode cX4_offers 183 = .ok (.aload_n 0, 1) := dk_42 (dk_at dksX4_offers_7 16 rfl rfl)
theorem dX4_offers_184 : decode cX4_offers 184 = .ok (.iload_n 1, 1) := dk_27 (dk_at dksX4_offers_7 17 rfl rfl)
theorem dX4_offers_185 : decode cX4_offers 185 = .ok (.iconst 1, 1) := dk_4 (dk_at dksX4_offers_7 18 rfl rfl)
theorem dX4_offers_186 : decode cX4_offers 186 = .ok (.iadd, 1) := dk_96 (dk_at dksX4_offers_7 19 rfl rfl)
theorem dX4_offers_187 : decode cX4_offers 187 = .ok (.iload_n 2, 1) := dk_28 (dk_at dksX4_offers_7 20 rfl rfl)
theorem dX4_offers_188 : decode cX4_offers 188 = .ok (.aload_n 0, 1) := dk_42 (dk_at dksX4_offers_7 21 rfl rfl)
theorem dX4_offers_189 : decode cX4_offers 189 = .ok (.getfield 195, 3) := dk_180 0 195 (dk_at dksX4_offers_8 0 rfl rfl)
theorem dX4_offers_192 : decode cX4_offers 192 = .ok (.iload 5, 2) := dk_21 5 (dk_at dksX4_offers_8 3 rfl rfl)
theorem dX4_offers_194 : decode cX4_offers 194 = .ok (.iaload, 1) := dk_46 (dk_at dksX4_offers_8 5 rfl rfl)
theorem dX4_offers_195 : decode cX4_offers 195 = .ok (.aload_n 0, 1) := dk_42 (dk_at dksX4_offers_8 6 rfl rfl)
theorem dX4_offers_196 : decode cX4_offers 196 = .ok (.getfield 153, 3) := dk_180 0 153 (dk_at dksX4_offers_8 7 rfl rfl)
theorem dX4_offers_199 : decode cX4_offers 199 = .ok (.iload 4, 2) := dk_21 4 (dk_at dksX4_offers_8 10 rfl rfl)
theorem dX4_offers_201 : decode cX4_offers 201 = .ok (.iaload, 1) := dk_46 (dk_at dksX4_offers_8 12 rfl rfl)
theorem dX4_offers_202 : decode cX4_offers 202 = .ok (.imul, 1) := dk_104 (dk_at dksX4_offers_8 13 rfl rfl)
theorem dX4_offers_203 : decode cX4_offers 203 = .ok (.iadd, 1) := dk_96 (dk_at dksX4_offers_8 14 rfl rfl)
theorem dX4_offers_204 : decode cX4_offers 204 = .ok (.iload_n 3, 1) := dk_29 (dk_at dksX4_offers_8 15 rfl rfl)
theorem dX4_offers_205 : decode cX4_offers 205 = .ok (.iconst 1, 1) := dk_4 (dk_at dksX4_offers_8 16 rfl rfl)
theorem dX4_offers_206 : decode cX4_offers 206 = .ok (.iadd, 1) := dk_96 (dk_at dksX4_offers_8 17 rfl rfl)
theorem dX4_offers_207 : decode cX4_offers 207 = .ok (.invokevirtual 525, 3) := dk_182 2 13 (dk_at dksX4_offers_8 18 rfl rfl)
theorem dX4_offers_210 : decode cX4_offers 210 = .ok (.aload_n 0, 1) := dk_42 (dk_at dksX4_offers_8 21 rfl rfl)
theorem dX4_offers_211 : decode cX4_offers 211 = .ok (.getfield 210, 3) := dk_180 0 210 (dk_at dksX4_offers_9 0 rfl rfl)
theorem dX4_offers_214 : decode cX4_offers 214 = .ok (.iload 5, 2) := dk_21 5 (dk_at dksX4_offers_9 3 rfl rfl)
theorem dX4_offers_216 : decode cX4_offers 216 = .ok (.dup2, 1) := dk_92 (dk_at dksX4_offers_9 5 rfl rfl)
theorem dX4_offers_217 : decode cX4_offers 217 = .ok (.iaload, 1) := dk_46 (dk_at dksX4_offers_9 6 rfl rfl)
theorem dX4_offers_218 : decode cX4_offers 218 = .ok (.aload_n 0, 1) := dk_42 (dk_at dksX4_offers_9 7 rfl rfl)
theorem dX4_offers_219 : decode cX4_offers 219 = .ok (.getfield 153, 3) := dk_180 0 153 (dk_at dksX4_offers_9 8 rfl rfl)
theorem dX4_offers_222 : decode cX4_offers 222 = .ok (.iload 4, 2) := dk_21 4 (dk_at dksX4_offers_9 11 rfl rfl)
theorem dX4_offers_224 : decode cX4_offers 224 = .ok (.iaload, 1) := dk_46 (dk_at dksX4_offers_9 13 rfl rfl)
theorem dX4_offers_225 : decode cX4_offers 225 = .ok (.isub, 1) := dk_100 (dk_at dksX4_offers_9 14 rfl rfl)
theorem dX4_offers_226 : decode cX4_offers 226 = .ok (.iastore, 1) := dk_79 (dk_at dksX4_offers_9 15 rfl rfl)
theorem dX4_offers_227 : decode cX4_offers 227 = .ok (.iinc 5 1, 3) := dk_132 5 1 (dk_at dksX4_offers_9 16 rfl rfl)
theorem dX4_offers_230 : decode cX4_offers 230 = .ok (.goto (-143), 3) := dk_167 255 113 (dk_at dksX4_offers_9 19 rfl rfl)
theorem dX4_offers_233 : decode cX4_offers 233 = .ok (.aload_n 0, 1) := dk_42 (dk_at dksX4_offers_9 22 rfl rfl)
theorem dX4_offers_234 : decode cX4_offers 234 = .ok (.getfield 204, 3) := dk_180 0 204 (dk_at dksX4_offers_10 0 rfl rfl)
theorem dX4_offers_237 : decode cX4_offers 237 = .ok (.iload_n 1, 1) := dk_27 (dk_at dksX4_offers_10 3 rfl rfl)
theorem dX4_offers_238 : decode cX4_offers 238 = .ok (.iconst (-1), 1) := dk_2 (dk_at dksX4_offers_10 4 rfl rfl)
theorem dX4_offers_239 : decode cX4_offers 239 = .ok (.iastore, 1) := dk_79 (dk_at dksX4_offers_10 5 rfl rfl)
theorem dX4_offers_240 : decode cX4_offers 240 = .ok (.aload_n 0, 1) := dk_42 (dk_at dksX4_offers_10 6 rfl rfl)
theorem dX4_offers_241 : decode cX4_offers 241 = .ok (.iload_n 1, 1) := dk_27 (dk_at dksX4_offers_10 7 rfl rfl)
theorem dX4_offers_242 : decode cX4_offers 242 = .ok (.iconst 1, 1) := dk_4 (dk_at dksX4_offers_10 8 rfl rfl)
theorem dX4_offers_243 : decode cX4_offers 243 = .ok (.iadd, 1) := dk_96 (dk_at dksX4_offers_10 9 rfl rfl)
theorem dX4_offers_244 : decode cX4_offers 244 = .ok (.iload_n 2, 1) := dk_28 (dk_at dksX4_offers_10 10 rfl rfl)
theorem dX4_offers_245 : decode cX4_offers 245 = .ok (.iload_n 3, 1) := dk_29 (dk_at dksX4_offers_10 11 rfl rfl)
theorem dX4_offers_246 : decode cX4_offers 246 = .ok (.invokevirtual 525, 3) := dk_182 2 13 (dk_at dksX4_offers_10 12 rfl rfl)
theorem dX4_offers_249 : decode cX4_offers 249 = .ok (.return_, 1) := dk_177 (dk_at dksX4_offers_10 15 rfl rfl)
abbrev cX4_sell : ByteArray := prog_23_method_85_code
def yX4_sell : MethodName := ⟨RX4, "sell", "()I"⟩
def dkwX4_sell_4 : List UInt8 := [181, 1, 35, 132, 2, 1, 167, 255, 166, 27, 172]
abbrev dktX4_sell_4 : List UInt8 := dkwX4_sell_4 ++ []
def dkwX4_sell_3 : List UInt8 := [42, 29, 42, 180, 0, 195, 42, 180, 0, 207, 28, 46, 46, 42, 180, 0, 153, 29, 46, 104, 182, 2, 22, 96]
abbrev dktX4_sell_3 : List UInt8 := dkwX4_sell_3 ++ dktX4_sell_4
def dkwX4_sell_2 : List UInt8 := [180, 0, 198, 42, 180, 0, 207, 28, 46, 92, 46, 42, 180, 0, 153, 29, 46, 100, 79, 42, 89, 180, 1, 35]
abbrev dktX4_sell_2 : List UInt8 := dkwX4_sell_2 ++ dktX4_sell_3
def dkwX4_sell_1 : List UInt8 := [46, 2, 160, 0, 6, 167, 0, 69, 42, 180, 0, 201, 28, 46, 62, 42, 180, 0, 183, 29, 3, 84, 42]
abbrev dktX4_sell_1 : List UInt8 := dkwX4_sell_1 ++ dktX4_sell_2
def dkwX4_sell_0 : List UInt8 := [42, 182, 2, 19, 42, 180, 2, 10, 60, 3, 61, 28, 42, 180, 2, 7, 162, 0, 88, 42, 180, 0, 207, 28]
abbrev dktX4_sell_0 : List UInt8 := dkwX4_sell_0 ++ dktX4_sell_1
theorem dksX4_sell_0 : cX4_sell.data.toList.drop 0 = dktX4_sell_0 := by decide +kernel
theorem dksX4_sell_1 : cX4_sell.data.toList.drop 24 = dktX4_sell_1 := dk_seg dksX4_sell_0 24 rfl rfl
theorem dksX4_sell_2 : cX4_sell.data.toList.drop 47 = dktX4_sell_2 := dk_seg dksX4_sell_1 23 rfl rfl
theorem dksX4_sell_3 : cX4_sell.data.toList.drop 71 = dktX4_sell_3 := dk_seg dksX4_sell_2 24 rfl rfl
theorem dksX4_sell_4 : cX4_sell.data.toList.drop 95 = dktX4_sell_4 := dk_seg dksX4_sell_3 24 rfl rfl
theorem dX4_sell_0 : decode cX4_sell 0 = .ok (.aload_n 0, 1) := dk_42 (dk_at dksX4_sell_0 0 rfl rfl)
theorem dX4_sell_1 : decode cX4_sell 1 = .ok (.invokevirtual 531, 3) := dk_182 2 19 (dk_at dksX4_sell_0 1 rfl rfl)
theorem dX4_sell_4 : decode cX4_sell 4 = .ok (.aload_n 0, 1) := dk_42 (dk_at dksX4_sell_0 4 rfl rfl)
theorem dX4_sell_5 : decode cX4_sell 5 = .ok (.getfield 522, 3) := dk_180 2 10 (dk_at dksX4_sell_0 5 rfl rfl)
theorem dX4_sell_8 : decode cX4_sell 8 = .ok (.istore_n 1, 1) := dk_60 (dk_at dksX4_sell_0 8 rfl rfl)
theorem dX4_sell_9 : decode cX4_sell 9 = .ok (.iconst 0, 1) := dk_3 (dk_at dksX4_sell_0 9 rfl rfl)
theorem dX4_sell_10 : decode cX4_sell 10 = .ok (.istore_n 2, 1) := dk_61 (dk_at dksX4_sell_0 10 rfl rfl)
theorem dX4_sell_11 : decode cX4_sell 11 = .ok (.iload_n 2, 1) := dk_28 (dk_at dksX4_sell_0 11 rfl rfl)
theorem dX4_sell_12 : decode cX4_sell 12 = .ok (.aload_n 0, 1) := dk_42 (dk_at dksX4_sell_0 12 rfl rfl)
theorem dX4_sell_13 : decode cX4_sell 13 = .ok (.getfield 519, 3) := dk_180 2 7 (dk_at dksX4_sell_0 13 rfl rfl)
theorem dX4_sell_16 : decode cX4_sell 16 = .ok (.if_icmp .ge 88, 3) := dk_162 0 88 (dk_at dksX4_sell_0 16 rfl rfl)
theorem dX4_sell_19 : decode cX4_sell 19 = .ok (.aload_n 0, 1) := dk_42 (dk_at dksX4_sell_0 19 rfl rfl)
theorem dX4_sell_20 : decode cX4_sell 20 = .ok (.getfield 207, 3) := dk_180 0 207 (dk_at dksX4_sell_0 20 rfl rfl)
theorem dX4_sell_23 : decode cX4_sell 23 = .ok (.iload_n 2, 1) := dk_28 (dk_at dksX4_sell_0 23 rfl rfl)
theorem dX4_sell_24 : decode cX4_sell 24 = .ok (.iaload, 1) := dk_46 (dk_at dksX4_sell_1 0 rfl rfl)
theorem dX4_sell_25 : decode cX4_sell 25 = .ok (.iconst (-1), 1) := dk_2 (dk_at dksX4_sell_1 1 rfl rfl)
theorem dX4_sell_26 : decode cX4_sell 26 = .ok (.if_icmp .ne 6, 3) := dk_160 0 6 (dk_at dksX4_sell_1 2 rfl rfl)
theorem dX4_sell_29 : decode cX4_sell 29 = .ok (.goto 69, 3) := dk_167 0 69 (dk_at dksX4_sell_1 5 rfl rfl)
theorem dX4_sell_32 : decode cX4_sell 32 = .ok (.aload_n 0, 1) := dk_42 (dk_at dksX4_sell_1 8 rfl rfl)
theorem dX4_sell_33 : decode cX4_sell 33 = .ok (.getfield 201, 3) := dk_180 0 201 (dk_at dksX4_sell_1 9 rfl rfl)
theorem dX4_sell_36 : decode cX4_sell 36 = .ok (.iload_n 2, 1) := dk_28 (dk_at dksX4_sell_1 12 rfl rfl)
theorem dX4_sell_37 : decode cX4_sell 37 = .ok (.iaload, 1) := dk_46 (dk_at dksX4_sell_1 13 rfl rfl)
theorem dX4_sell_38 : decode cX4_sell 38 = .ok (.istore_n 3, 1) := dk_62 (dk_at dksX4_sell_1 14 rfl rfl)
theorem dX4_sell_39 : decode cX4_sell 39 = .ok (.aload_n 0, 1) := dk_42 (dk_at dksX4_sell_1 15 rfl rfl)
theorem dX4_sell_40 : decode cX4_sell 40 = .ok (.getfield 183, 3) := dk_180 0 183 (dk_at dksX4_sell_1 16 rfl rfl)
theorem dX4_sell_43 : decode cX4_sell 43 = .ok (.iload_n 3, 1) := dk_29 (dk_at dksX4_sell_1 19 rfl rfl)
theorem dX4_sell_44 : decode cX4_sell 44 = .ok (.iconst 0, 1) := dk_3 (dk_at dksX4_sell_1 20 rfl rfl)
theorem dX4_sell_45 : decode cX4_sell 45 = .ok (.bastore, 1) := dk_84 (dk_at dksX4_sell_1 21 rfl rfl)
theorem dX4_sell_46 : decode cX4_sell 46 = .ok (.aload_n 0, 1) := dk_42 (dk_at dksX4_sell_1 22 rfl rfl)
theorem dX4_sell_47 : decode cX4_sell 47 = .ok (.getfield 198, 3) := dk_180 0 198 (dk_at dksX4_sell_2 0 rfl rfl)
theorem dX4_sell_50 : decode cX4_sell 50 = .ok (.aload_n 0, 1) := dk_42 (dk_at dksX4_sell_2 3 rfl rfl)
theorem dX4_sell_51 : decode cX4_sell 51 = .ok (.getfield 207, 3) := dk_180 0 207 (dk_at dksX4_sell_2 4 rfl rfl)
theorem dX4_sell_54 : decode cX4_sell 54 = .ok (.iload_n 2, 1) := dk_28 (dk_at dksX4_sell_2 7 rfl rfl)
theorem dX4_sell_55 : decode cX4_sell 55 = .ok (.iaload, 1) := dk_46 (dk_at dksX4_sell_2 8 rfl rfl)
theorem dX4_sell_56 : decode cX4_sell 56 = .ok (.dup2, 1) := dk_92 (dk_at dksX4_sell_2 9 rfl rfl)
theorem dX4_sell_57 : decode cX4_sell 57 = .ok (.iaload, 1) := dk_46 (dk_at dksX4_sell_2 10 rfl rfl)
theorem dX4_sell_58 : decode cX4_sell 58 = .ok (.aload_n 0, 1) := dk_42 (dk_at dksX4_sell_2 11 rfl rfl)
theorem dX4_sell_59 : decode cX4_sell 59 = .ok (.getfield 153, 3) := dk_180 0 153 (dk_at dksX4_sell_2 12 rfl rfl)
theorem dX4_sell_62 : decode cX4_sell 62 = .ok (.iload_n 3, 1) := dk_29 (dk_at dksX4_sell_2 15 rfl rfl)
theorem dX4_sell_63 : decode cX4_sell 63 = .ok (.iaload, 1) := dk_46 (dk_at dksX4_sell_2 16 rfl rfl)
theorem dX4_sell_64 : decode cX4_sell 64 = .ok (.isub, 1) := dk_100 (dk_at dksX4_sell_2 17 rfl rfl)
theorem dX4_sell_65 : decode cX4_sell 65 = .ok (.iastore, 1) := dk_79 (dk_at dksX4_sell_2 18 rfl rfl)
theorem dX4_sell_66 : decode cX4_sell 66 = .ok (.aload_n 0, 1) := dk_42 (dk_at dksX4_sell_2 19 rfl rfl)
theorem dX4_sell_67 : decode cX4_sell 67 = .ok (.dup, 1) := dk_89 (dk_at dksX4_sell_2 20 rfl rfl)
theorem dX4_sell_68 : decode cX4_sell 68 = .ok (.getfield 291, 3) := dk_180 1 35 (dk_at dksX4_sell_2 21 rfl rfl)
theorem dX4_sell_71 : decode cX4_sell 71 = .ok (.aload_n 0, 1) := dk_42 (dk_at dksX4_sell_3 0 rfl rfl)
theorem dX4_sell_72 : decode cX4_sell 72 = .ok (.iload_n 3, 1) := dk_29 (dk_at dksX4_sell_3 1 rfl rfl)
theorem dX4_sell_73 : decode cX4_sell 73 = .ok (.aload_n 0, 1) := dk_42 (dk_at dksX4_sell_3 2 rfl rfl)
theorem dX4_sell_74 : decode cX4_sell 74 = .ok (.getfield 195, 3) := dk_180 0 195 (dk_at dksX4_sell_3 3 rfl rfl)
theorem dX4_sell_77 : decode cX4_sell 77 = .ok (.aload_n 0, 1) := dk_42 (dk_at dksX4_sell_3 6 rfl rfl)
theorem dX4_sell_78 : decode cX4_sell 78 = .ok (.getfield 207, 3) := dk_180 0 207 (dk_at dksX4_sell_3 7 rfl rfl)
theorem dX4_sell_81 : decode cX4_sell 81 = .ok (.iload_n 2, 1) := dk_28 (dk_at dksX4_sell_3 10 rfl rfl)
theorem dX4_sell_82 : decode cX4_sell 82 = .ok (.iaload, 1) := dk_46 (dk_at dksX4_sell_3 11 rfl rfl)
theorem dX4_sell_83 : decode cX4_sell 83 = .ok (.iaload, 1) := dk_46 (dk_at dksX4_sell_3 12 rfl rfl)
theorem dX4_sell_84 : decode cX4_sell 84 = .ok (.aload_n 0, 1) := dk_42 (dk_at dksX4_sell_3 13 rfl rfl)
theorem dX4_sell_85 : decode cX4_sell 85 = .ok (.getfield 153, 3) := dk_180 0 153 (dk_at dksX4_sell_3 14 rfl rfl)
theorem dX4_sell_88 : decode cX4_sell 88 = .ok (.iload_n 3, 1) := dk_29 (dk_at dksX4_sell_3 17 rfl rfl)
theorem dX4_sell_89 : decode cX4_sell 89 = .ok (.iaload, 1) := dk_46 (dk_at dksX4_sell_3 18 rfl rfl)
theorem dX4_sell_90 : decode cX4_sell 90 = .ok (.imul, 1) := dk_104 (dk_at dksX4_sell_3 19 rfl rfl)
theorem dX4_sell_91 : decode cX4_sell 91 = .ok (.invokevirtual 534, 3) := dk_182 2 22 (dk_at dksX4_sell_3 20 rfl rfl)
theorem dX4_sell_94 : decode cX4_sell 94 = .ok (.iadd, 1) := dk_96 (dk_at dksX4_sell_3 23 rfl rfl)
theorem dX4_sell_95 : decode cX4_sell 95 = .ok (.putfield 291, 3) := dk_181 1 35 (dk_at dksX4_sell_4 0 rfl rfl)
theorem dX4_sell_98 : decode cX4_sell 98 = .ok (.iinc 2 1, 3) := dk_132 2 1 (dk_at dksX4_sell_4 3 rfl rfl)
theorem dX4_sell_101 : decode cX4_sell 101 = .ok (.goto (-90), 3) := dk_167 255 166 (dk_at dksX4_sell_4 6 rfl rfl)
theorem dX4_sell_104 : decode cX4_sell 104 = .ok (.iload_n 1, 1) := dk_27 (dk_at dksX4_sell_4 9 rfl rfl)
theorem dX4_sell_105 : decode cX4_sell 105 = .ok (.ireturn, 1) := dk_172 (dk_at dksX4_sell_4 10 rfl rfl)
abbrev cX4_pays : ByteArray := prog_23_method_83_code
def yX4_pays : MethodName := ⟨RX4, "pays", "(II)I"⟩
def dkwX4_pays_15 : List UInt8 := [132, 6, 1, 167, 255, 77, 21, 4, 172]
abbrev dktX4_pays_15 : List UInt8 := dkwX4_pays_15 ++ []
def dkwX4_pays_14 : List UInt8 := [159, 0, 22, 42, 180, 0, 186, 21, 7, 92, 46, 21, 5, 96, 79, 21, 4, 21, 5, 100, 54, 4]
abbrev dktX4_pays_14 : List UInt8 := dkwX4_pays_14 ++ dktX4_pays_15
def dkwX4_pays_13 : List UInt8 := [42, 180, 0, 168, 27, 46, 16, 60, 108, 42, 180, 0, 168, 27, 46, 182, 2, 28, 54, 7, 21, 7, 2]
abbrev dktX4_pays_13 : List UInt8 := dkwX4_pays_13 ++ dktX4_pays_14
def dkwX4_pays_12 : List UInt8 := [16, 12, 27, 104, 21, 6, 96, 46, 133, 105, 42, 180, 0, 153, 27, 46, 133, 109, 136, 54, 5, 42, 21, 6]
abbrev dktX4_pays_12 : List UInt8 := dkwX4_pays_12 ++ dktX4_pays_13
def dkwX4_pays_11 : List UInt8 := [21, 5, 96, 79, 21, 4, 21, 5, 100, 54, 4, 42, 28, 6, 29, 182, 2, 25, 133, 42, 180, 0, 177]
abbrev dktX4_pays_11 : List UInt8 := dkwX4_pays_11 ++ dktX4_pays_12
def dkwX4_pays_10 : List UInt8 := [180, 0, 41, 21, 6, 46, 2, 159, 0, 27, 42, 180, 0, 147, 42, 180, 0, 41, 21, 6, 46, 92, 46]
abbrev dktX4_pays_10 : List UInt8 := dkwX4_pays_10 ++ dktX4_pays_11
def dkwX4_pays_9 : List UInt8 := [16, 12, 27, 104, 21, 6, 96, 46, 133, 105, 42, 180, 0, 153, 27, 46, 133, 109, 136, 54, 5, 42]
abbrev dktX4_pays_9 : List UInt8 := dkwX4_pays_9 ++ dktX4_pays_10
def dkwX4_pays_8 : List UInt8 := [104, 21, 6, 96, 46, 154, 0, 6, 167, 0, 152, 42, 28, 5, 29, 182, 2, 25, 133, 42, 180, 0, 177]
abbrev dktX4_pays_8 : List UInt8 := dkwX4_pays_8 ++ dktX4_pays_9
def dkwX4_pays_7 : List UInt8 := [21, 5, 100, 54, 4, 3, 54, 6, 21, 6, 42, 180, 0, 248, 162, 0, 176, 42, 180, 0, 177, 16, 12, 27]
abbrev dktX4_pays_7 : List UInt8 := dkwX4_pays_7 ++ dktX4_pays_8
def dkwX4_pays_6 : List UInt8 := [182, 2, 25, 54, 5, 42, 180, 0, 147, 42, 180, 0, 165, 27, 46, 92, 46, 21, 5, 96, 79, 21, 4]
abbrev dktX4_pays_6 : List UInt8 := dkwX4_pays_6 ++ dktX4_pays_7
def dkwX4_pays_5 : List UInt8 := [180, 0, 162, 27, 46, 92, 46, 21, 5, 96, 79, 21, 4, 21, 5, 100, 54, 4, 42, 28, 4, 29]
abbrev dktX4_pays_5 : List UInt8 := dkwX4_pays_5 ++ dktX4_pays_6
def dkwX4_pays_4 : List UInt8 := [154, 0, 5, 28, 172, 28, 54, 4, 42, 28, 3, 29, 182, 2, 25, 54, 5, 42, 180, 0, 147, 42]
abbrev dktX4_pays_4 : List UInt8 := dkwX4_pays_4 ++ dktX4_pays_5
def dkwX4_pays_3 : List UInt8 := [42, 180, 0, 66, 4, 46, 96, 42, 180, 0, 66, 5, 46, 96, 42, 180, 0, 66, 6, 46, 96, 62, 29]
abbrev dktX4_pays_3 : List UInt8 := dkwX4_pays_3 ++ dktX4_pays_4
def dkwX4_pays_2 : List UInt8 := [29, 21, 5, 182, 2, 22, 42, 21, 4, 28, 21, 5, 100, 182, 2, 22, 96, 172, 42, 180, 0, 66, 3, 46]
abbrev dktX4_pays_2 : List UInt8 := dkwX4_pays_2 ++ dktX4_pays_3
def dkwX4_pays_1 : List UInt8 := [54, 4, 28, 133, 42, 180, 0, 153, 29, 46, 133, 105, 42, 180, 0, 153, 27, 46, 133, 109, 136, 54, 5, 42]
abbrev dktX4_pays_1 : List UInt8 := dkwX4_pays_1 ++ dktX4_pays_2
def dkwX4_pays_0 : List UInt8 := [42, 180, 0, 171, 27, 46, 2, 159, 0, 58, 42, 180, 0, 171, 27, 46, 62, 42, 180, 0, 174, 27, 46]
abbrev dktX4_pays_0 : List UInt8 := dkwX4_pays_0 ++ dktX4_pays_1
theorem dksX4_pays_0 : cX4_pays.data.toList.drop 0 = dktX4_pays_0 := by decide +kernel
theorem dksX4_pays_1 : cX4_pays.data.toList.drop 23 = dktX4_pays_1 := dk_seg dksX4_pays_0 23 rfl rfl
theorem dksX4_pays_2 : cX4_pays.data.toList.drop 47 = dktX4_pays_2 := dk_seg dksX4_pays_1 24 rfl rfl
theorem dksX4_pays_3 : cX4_pays.data.toList.drop 71 = dktX4_pays_3 := dk_seg dksX4_pays_2 24 rfl rfl
theorem dksX4_pays_4 : cX4_pays.data.toList.drop 94 = dktX4_pays_4 := dk_seg dksX4_pays_3 23 rfl rfl
theorem dksX4_pays_5 : cX4_pays.data.toList.drop 116 = dktX4_pays_5 := dk_seg dksX4_pays_4 22 rfl rfl
theorem dksX4_pays_6 : cX4_pays.data.toList.drop 138 = dktX4_pays_6 := dk_seg dksX4_pays_5 22 rfl rfl
theorem dksX4_pays_7 : cX4_pays.data.toList.drop 161 = dktX4_pays_7 := dk_seg dksX4_pays_6 23 rfl rfl
theorem dksX4_pays_8 : cX4_pays.data.toList.drop 185 = dktX4_pays_8 := dk_seg dksX4_pays_7 24 rfl rfl
theorem dksX4_pays_9 : cX4_pays.data.toList.drop 208 = dktX4_pays_9 := dk_seg dksX4_pays_8 23 rfl rfl
theorem dksX4_pays_10 : cX4_pays.data.toList.drop 230 = dktX4_pays_10 := dk_seg dksX4_pays_9 22 rfl rfl
theorem dksX4_pays_11 : cX4_pays.data.toList.drop 253 = dktX4_pays_11 := dk_seg dksX4_pays_10 23 rfl rfl
theorem dksX4_pays_12 : cX4_pays.data.toList.drop 276 = dktX4_pays_12 := dk_seg dksX4_pays_11 23 rfl rfl
theorem dksX4_pays_13 : cX4_pays.data.toList.drop 300 = dktX4_pays_13 := dk_seg dksX4_pays_12 24 rfl rfl
theorem dksX4_pays_14 : cX4_pays.data.toList.drop 323 = dktX4_pays_14 := dk_seg dksX4_pays_13 23 rfl rfl
theorem dksX4_pays_15 : cX4_pays.data.toList.drop 345 = dktX4_pays_15 := dk_seg dksX4_pays_14 22 rfl rfl
theorem dX4_pays_0 : decode cX4_pays 0 = .ok (.aload_n 0, 1) := dk_42 (dk_at dksX4_pays_0 0 rfl rfl)
theorem dX4_pays_1 : decode cX4_pays 1 = .ok (.getfield 171, 3) := dk_180 0 171 (dk_at dksX4_pays_0 1 rfl rfl)
theorem dX4_pays_4 : decode cX4_pays 4 = .ok (.iload_n 1, 1) := dk_27 (dk_at dksX4_pays_0 4 rfl rfl)
theorem dX4_pays_5 : decode cX4_pays 5 = .ok (.iaload, 1) := dk_46 (dk_at dksX4_pays_0 5 rfl rfl)
theorem dX4_pays_6 : decode cX4_pays 6 = .ok (.iconst (-1), 1) := dk_2 (dk_at dksX4_pays_0 6 rfl rfl)
theorem dX4_pays_7 : decode cX4_pays 7 = .ok (.if_icmp .eq 58, 3) := dk_159 0 58 (dk_at dksX4_pays_0 7 rfl rfl)
theorem dX4_pays_10 : decode cX4_pays 10 = .ok (.aload_n 0, 1) := dk_42 (dk_at dksX4_pays_0 10 rfl rfl)
theorem dX4_pays_11 : decode cX4_pays 11 = .ok (.getfield 171, 3) := dk_180 0 171 (dk_at dksX4_pays_0 11 rfl rfl)
theorem dX4_pays_14 : decode cX4_pays 14 = .ok (.iload_n 1, 1) := dk_27 (dk_at dksX4_pays_0 14 rfl rfl)
theorem dX4_pays_15 : decode cX4_pays 15 = .ok (.iaload, 1) := dk_46 (dk_at dksX4_pays_0 15 rfl rfl)
theorem dX4_pays_16 : decode cX4_pays 16 = .ok (.istore_n 3, 1) := dk_62 (dk_at dksX4_pays_0 16 rfl rfl)
theorem dX4_pays_17 : decode cX4_pays 17 = .ok (.aload_n 0, 1) := dk_42 (dk_at dksX4_pays_0 17 rfl rfl)
theorem dX4_pays_18 : decode cX4_pays 18 = .ok (.getfield 174, 3) := dk_180 0 174 (dk_at dksX4_pays_0 18 rfl rfl)
theorem dX4_pays_21 : decode cX4_pays 21 = .ok (.iload_n 1, 1) := dk_27 (dk_at dksX4_pays_0 21 rfl rfl)
theorem dX4_pays_22 : decode cX4_pays 22 = .ok (.iaload, 1) := dk_46 (dk_at dksX4_pays_0 22 rfl rfl)
theorem dX4_pays_23 : decode cX4_pays 23 = .ok (.istore 4, 2) := dk_54 4 (dk_at dksX4_pays_1 0 rfl rfl)
theorem dX4_pays_25 : decode cX4_pays 25 = .ok (.iload_n 2, 1) := dk_28 (dk_at dksX4_pays_1 2 rfl rfl)
theorem dX4_pays_26 : decode cX4_pays 26 = .ok (.i2l, 1) := dk_133 (dk_at dksX4_pays_1 3 rfl rfl)
theorem dX4_pays_27 : decode cX4_pays 27 = .ok (.aload_n 0, 1) := dk_42 (dk_at dksX4_pays_1 4 rfl rfl)
theorem dX4_pays_28 : decode cX4_pays 28 = .ok (.getfield 153, 3) := dk_180 0 153 (dk_at dksX4_pays_1 5 rfl rfl)
theorem dX4_pays_31 : decode cX4_pays 31 = .ok (.iload_n 3, 1) := dk_29 (dk_at dksX4_pays_1 8 rfl rfl)
theorem dX4_pays_32 : decode cX4_pays 32 = .ok (.iaload, 1) := dk_46 (dk_at dksX4_pays_1 9 rfl rfl)
theorem dX4_pays_33 : decode cX4_pays 33 = .ok (.i2l, 1) := dk_133 (dk_at dksX4_pays_1 10 rfl rfl)
theorem dX4_pays_34 : decode cX4_pays 34 = .ok (.lmul, 1) := dk_105 (dk_at dksX4_pays_1 11 rfl rfl)
theorem dX4_pays_35 : decode cX4_pays 35 = .ok (.aload_n 0, 1) := dk_42 (dk_at dksX4_pays_1 12 rfl rfl)
theorem dX4_pays_36 : decode cX4_pays 36 = .ok (.getfield 153, 3) := dk_180 0 153 (dk_at dksX4_pays_1 13 rfl rfl)
theorem dX4_pays_39 : decode cX4_pays 39 = .ok (.iload_n 1, 1) := dk_27 (dk_at dksX4_pays_1 16 rfl rfl)
theorem dX4_pays_40 : decode cX4_pays 40 = .ok (.iaload, 1) := dk_46 (dk_at dksX4_pays_1 17 rfl rfl)
theorem dX4_pays_41 : decode cX4_pays 41 = .ok (.i2l, 1) := dk_133 (dk_at dksX4_pays_1 18 rfl rfl)
theorem dX4_pays_42 : decode cX4_pays 42 = .ok (.ldiv, 1) := dk_109 (dk_at dksX4_pays_1 19 rfl rfl)
theorem dX4_pays_43 : decode cX4_pays 43 = .ok (.l2i, 1) := dk_136 (dk_at dksX4_pays_1 20 rfl rfl)
theorem dX4_pays_44 : decode cX4_pays 44 = .ok (.istore 5, 2) := dk_54 5 (dk_at dksX4_pays_1 21 rfl rfl)
theorem dX4_pays_46 : decode cX4_pays 46 = .ok (.aload_n 0, 1) := dk_42 (dk_at dksX4_pays_1 23 rfl rfl)
theorem dX4_pays_47 : decode cX4_pays 47 = .ok (.iload_n 3, 1) := dk_29 (dk_at dksX4_pays_2 0 rfl rfl)
theorem dX4_pays_48 : decode cX4_pays 48 = .ok (.iload 5, 2) := dk_21 5 (dk_at dksX4_pays_2 1 rfl rfl)
theorem dX4_pays_50 : decode cX4_pays 50 = .ok (.invokevirtual 534, 3) := dk_182 2 22 (dk_at dksX4_pays_2 3 rfl rfl)
theorem dX4_pays_53 : decode cX4_pays 53 = .ok (.aload_n 0, 1) := dk_42 (dk_at dksX4_pays_2 6 rfl rfl)
theorem dX4_pays_54 : decode cX4_pays 54 = .ok (.iload 4, 2) := dk_21 4 (dk_at dksX4_pays_2 7 rfl rfl)
theorem dX4_pays_56 : decode cX4_pays 56 = .ok (.iload_n 2, 1) := dk_28 (dk_at dksX4_pays_2 9 rfl rfl)
theorem dX4_pays_57 : decode cX4_pays 57 = .ok (.iload 5, 2) := dk_21 5 (dk_at dksX4_pays_2 10 rfl rfl)
theorem dX4_pays_59 : decode cX4_pays 59 = .ok (.isub, 1) := dk_100 (dk_at dksX4_pays_2 12 rfl rfl)
theorem dX4_pays_60 : decode cX4_pays 60 = .ok (.invokevirtual 534, 3) := dk_182 2 22 (dk_at dksX4_pays_2 13 rfl rfl)
theorem dX4_pays_63 : decode cX4_pays 63 = .ok (.iadd, 1) := dk_96 (dk_at dksX4_pays_2 16 rfl rfl)
theorem dX4_pays_64 : decode cX4_pays 64 = .ok (.ireturn, 1) := dk_172 (dk_at dksX4_pays_2 17 rfl rfl)
theorem dX4_pays_65 : decode cX4_pays 65 = .ok (.aload_n 0, 1) := dk_42 (dk_at dksX4_pays_2 18 rfl rfl)
theorem dX4_pays_66 : decode cX4_pays 66 = .ok (.getfield 66, 3) := dk_180 0 66 (dk_at dksX4_pays_2 19 rfl rfl)
theorem dX4_pays_69 : decode cX4_pays 69 = .ok (.iconst 0, 1) := dk_3 (dk_at dksX4_pays_2 22 rfl rfl)
theorem dX4_pays_70 : decode cX4_pays 70 = .ok (.iaload, 1) := dk_46 (dk_at dksX4_pays_2 23 rfl rfl)
theorem dX4_pays_71 : decode cX4_pays 71 = .ok (.aload_n 0, 1) := dk_42 (dk_at dksX4_pays_3 0 rfl rfl)
theorem dX4_pays_72 : decode cX4_pays 72 = .ok (.getfield 66, 3) := dk_180 0 66 (dk_at dksX4_pays_3 1 rfl rfl)
theorem dX4_pays_75 : decode cX4_pays 75 = .ok (.iconst 1, 1) := dk_4 (dk_at dksX4_pays_3 4 rfl rfl)
theorem dX4_pays_76 : decode cX4_pays 76 = .ok (.iaload, 1) := dk_46 (dk_at dksX4_pays_3 5 rfl rfl)
theorem dX4_pays_77 : decode cX4_pays 77 = .ok (.iadd, 1) := dk_96 (dk_at dksX4_pays_3 6 rfl rfl)
theorem dX4_pays_78 : decode cX4_pays 78 = .ok (.aload_n 0, 1) := dk_42 (dk_at dksX4_pays_3 7 rfl rfl)
theorem dX4_pays_79 : decode cX4_pays 79 = .ok (.getfield 66, 3) := dk_180 0 66 (dk_at dksX4_pays_3 8 rfl rfl)
theorem dX4_pays_82 : decode cX4_pays 82 = .ok (.iconst 2, 1) := dk_5 (dk_at dksX4_pays_3 11 rfl rfl)
theorem dX4_pays_83 : decode cX4_pays 83 = .ok (.iaload, 1) := dk_46 (dk_at dksX4_pays_3 12 rfl rfl)
theorem dX4_pays_84 : decode cX4_pays 84 = .ok (.iadd, 1) := dk_96 (dk_at dksX4_pays_3 13 rfl rfl)
theorem dX4_pays_85 : decode cX4_pays 85 = .ok (.aload_n 0, 1) := dk_42 (dk_at dksX4_pays_3 14 rfl rfl)
theorem dX4_pays_86 : decode cX4_pays 86 = .ok (.getfield 66, 3) := dk_180 0 66 (dk_at dksX4_pays_3 15 rfl rfl)
theorem dX4_pays_89 : decode cX4_pays 89 = .ok (.iconst 3, 1) := dk_6 (dk_at dksX4_pays_3 18 rfl rfl)
theorem dX4_pays_90 : decode cX4_pays 90 = .ok (.iaload, 1) := dk_46 (dk_at dksX4_pays_3 19 rfl rfl)
theorem dX4_pays_91 : decode cX4_pays 91 = .ok (.iadd, 1) := dk_96 (dk_at dksX4_pays_3 20 rfl rfl)
theorem dX4_pays_92 : decode cX4_pays 92 = .ok (.istore_n 3, 1) := dk_62 (dk_at dksX4_pays_3 21 rfl rfl)
theorem dX4_pays_93 : decode cX4_pays 93 = .ok (.iload_n 3, 1) := dk_29 (dk_at dksX4_pays_3 22 rfl rfl)
theorem dX4_pays_94 : decode cX4_pays 94 = .ok (.ifCond .ne 5, 3) := dk_154 0 5 (dk_at dksX4_pays_4 0 rfl rfl)
theorem dX4_pays_97 : decode cX4_pays 97 = .ok (.iload_n 2, 1) := dk_28 (dk_at dksX4_pays_4 3 rfl rfl)
theorem dX4_pays_98 : decode cX4_pays 98 = .ok (.ireturn, 1) := dk_172 (dk_at dksX4_pays_4 4 rfl rfl)
theorem dX4_pays_99 : decode cX4_pays 99 = .ok (.iload_n 2, 1) := dk_28 (dk_at dksX4_pays_4 5 rfl rfl)
theorem dX4_pays_100 : decode cX4_pays 100 = .ok (.istore 4, 2) := dk_54 4 (dk_at dksX4_pays_4 6 rfl rfl)
theorem dX4_pays_102 : decode cX4_pays 102 = .ok (.aload_n 0, 1) := dk_42 (dk_at dksX4_pays_4 8 rfl rfl)
theorem dX4_pays_103 : decode cX4_pays 103 = .ok (.iload_n 2, 1) := dk_28 (dk_at dksX4_pays_4 9 rfl rfl)
theorem dX4_pays_104 : decode cX4_pays 104 = .ok (.iconst 0, 1) := dk_3 (dk_at dksX4_pays_4 10 rfl rfl)
theorem dX4_pays_105 : decode cX4_pays 105 = .ok (.iload_n 3, 1) := dk_29 (dk_at dksX4_pays_4 11 rfl rfl)
theorem dX4_pays_106 : decode cX4_pays 106 = .ok (.invokevirtual 537, 3) := dk_182 2 25 (dk_at dksX4_pays_4 12 rfl rfl)
theorem dX4_pays_109 : decode cX4_pays 109 = .ok (.istore 5, 2) := dk_54 5 (dk_at dksX4_pays_4 15 rfl rfl)
theorem dX4_pays_111 : decode cX4_pays 111 = .ok (.aload_n 0, 1) := dk_42 (dk_at dksX4_pays_4 17 rfl rfl)
theorem dX4_pays_112 : decode cX4_pays 112 = .ok (.getfield 147, 3) := dk_180 0 147 (dk_at dksX4_pays_4 18 rfl rfl)
theorem dX4_pays_115 : decode cX4_pays 115 = .ok (.aload_n 0, 1) := dk_42 (dk_at dksX4_pays_4 21 rfl rfl)
theorem dX4_pays_116 : decode cX4_pays 116 = .ok (.getfield 162, 3) := dk_180 0 162 (dk_at dksX4_pays_5 0 rfl rfl)
theorem dX4_pays_119 : decode cX4_pays 119 = .ok (.iload_n 1, 1) := dk_27 (dk_at dksX4_pays_5 3 rfl rfl)
theorem dX4_pays_120 : decode cX4_pays 120 = .ok (.iaload, 1) := dk_46 (dk_at dksX4_pays_5 4 rfl rfl)
theorem dX4_pays_121 : decode cX4_pays 121 = .ok (.dup2, 1) := dk_92 (dk_at dksX4_pays_5 5 rfl rfl)
theorem dX4_pays_122 : decode cX4_pays 122 = .ok (.iaload, 1) := dk_46 (dk_at dksX4_pays_5 6 rfl rfl)
theorem dX4_pays_123 : decode cX4_pays 123 = .ok (.iload 5, 2) := dk_21 5 (dk_at dksX4_pays_5 7 rfl rfl)
theorem dX4_pays_125 : decode cX4_pays 125 = .ok (.iadd, 1) := dk_96 (dk_at dksX4_pays_5 9 rfl rfl)
theorem dX4_pays_126 : decode cX4_pays 126 = .ok (.iastore, 1) := dk_79 (dk_at dksX4_pays_5 10 rfl rfl)
theorem dX4_pays_127 : decode cX4_pays 127 = .ok (.iload 4, 2) := dk_21 4 (dk_at dksX4_pays_5 11 rfl rfl)
theorem dX4_pays_129 : decode cX4_pays 129 = .ok (.iload 5, 2) := dk_21 5 (dk_at dksX4_pays_5 13 rfl rfl)
theorem dX4_pays_131 : decode cX4_pays 131 = .ok (.isub, 1) := dk_100 (dk_at dksX4_pays_5 15 rfl rfl)
theorem dX4_pays_132 : decode cX4_pays 132 = .ok (.istore 4, 2) := dk_54 4 (dk_at dksX4_pays_5 16 rfl rfl)
theorem dX4_pays_134 : decode cX4_pays 134 = .ok (.aload_n 0, 1) := dk_42 (dk_at dksX4_pays_5 18 rfl rfl)
theorem dX4_pays_135 : decode cX4_pays 135 = .ok (.iload_n 2, 1) := dk_28 (dk_at dksX4_pays_5 19 rfl rfl)
theorem dX4_pays_136 : decode cX4_pays 136 = .ok (.iconst 1, 1) := dk_4 (dk_at dksX4_pays_5 20 rfl rfl)
theorem dX4_pays_137 : decode cX4_pays 137 = .ok (.iload_n 3, 1) := dk_29 (dk_at dksX4_pays_5 21 rfl rfl)
theorem dX4_pays_138 : decode cX4_pays 138 = .ok (.invokevirtual 537, 3) := dk_182 2 25 (dk_at dksX4_pays_6 0 rfl rfl)
theorem dX4_pays_141 : decode cX4_pays 141 = .ok (.istore 5, 2) := dk_54 5 (dk_at dksX4_pays_6 3 rfl rfl)
theorem dX4_pays_143 : decode cX4_pays 143 = .ok (.aload_n 0, 1) := dk_42 (dk_at dksX4_pays_6 5 rfl rfl)
theorem dX4_pays_144 : decode cX4_pays 144 = .ok (.getfield 147, 3) := dk_180 0 147 (dk_at dksX4_pays_6 6 rfl rfl)
theorem dX4_pays_147 : decode cX4_pays 147 = .ok (.aload_n 0, 1) := dk_42 (dk_at dksX4_pays_6 9 rfl rfl)
theorem dX4_pays_148 : decode cX4_pays 148 = .ok (.getfield 165, 3) := dk_180 0 165 (dk_at dksX4_pays_6 10 rfl rfl)
theorem dX4_pays_151 : decode cX4_pays 151 = .ok (.iload_n 1, 1) := dk_27 (dk_at dksX4_pays_6 13 rfl rfl)
theorem dX4_pays_152 : decode cX4_pays 152 = .ok (.iaload, 1) := dk_46 (dk_at dksX4_pays_6 14 rfl rfl)
theorem dX4_pays_153 : decode cX4_pays 153 = .ok (.dup2, 1) := dk_92 (dk_at dksX4_pays_6 15 rfl rfl)
theorem dX4_pays_154 : decode cX4_pays 154 = .ok (.iaload, 1) := dk_46 (dk_at dksX4_pays_6 16 rfl rfl)
theorem dX4_pays_155 : decode cX4_pays 155 = .ok (.iload 5, 2) := dk_21 5 (dk_at dksX4_pays_6 17 rfl rfl)
theorem dX4_pays_157 : decode cX4_pays 157 = .ok (.iadd, 1) := dk_96 (dk_at dksX4_pays_6 19 rfl rfl)
theorem dX4_pays_158 : decode cX4_pays 158 = .ok (.iastore, 1) := dk_79 (dk_at dksX4_pays_6 20 rfl rfl)
theorem dX4_pays_159 : decode cX4_pays 159 = .ok (.iload 4, 2) := dk_21 4 (dk_at dksX4_pays_6 21 rfl rfl)
theorem dX4_pays_161 : decode cX4_pays 161 = .ok (.iload 5, 2) := dk_21 5 (dk_at dksX4_pays_7 0 rfl rfl)
theorem dX4_pays_163 : decode cX4_pays 163 = .ok (.isub, 1) := dk_100 (dk_at dksX4_pays_7 2 rfl rfl)
theorem dX4_pays_164 : decode cX4_pays 164 = .ok (.istore 4, 2) := dk_54 4 (dk_at dksX4_pays_7 3 rfl rfl)
theorem dX4_pays_166 : decode cX4_pays 166 = .ok (.iconst 0, 1) := dk_3 (dk_at dksX4_pays_7 5 rfl rfl)
theorem dX4_pays_167 : decode cX4_pays 167 = .ok (.istore 6, 2) := dk_54 6 (dk_at dksX4_pays_7 6 rfl rfl)
theorem dX4_pays_169 : decode cX4_pays 169 = .ok (.iload 6, 2) := dk_21 6 (dk_at dksX4_pays_7 8 rfl rfl)
theorem dX4_pays_171 : decode cX4_pays 171 = .ok (.aload_n 0, 1) := dk_42 (dk_at dksX4_pays_7 10 rfl rfl)
theorem dX4_pays_172 : decode cX4_pays 172 = .ok (.getfield 248, 3) := dk_180 0 248 (dk_at dksX4_pays_7 11 rfl rfl)
theorem dX4_pays_175 : decode cX4_pays 175 = .ok (.if_icmp .ge 176, 3) := dk_162 0 176 (dk_at dksX4_pays_7 14 rfl rfl)
theorem dX4_pays_178 : decode cX4_pays 178 = .ok (.aload_n 0, 1) := dk_42 (dk_at dksX4_pays_7 17 rfl rfl)
theorem dX4_pays_179 : decode cX4_pays 179 = .ok (.getfield 177, 3) := dk_180 0 177 (dk_at dksX4_pays_7 18 rfl rfl)
theorem dX4_pays_182 : decode cX4_pays 182 = .ok (.bipush 12, 2) := dk_16 12 (dk_at dksX4_pays_7 21 rfl rfl)
theorem dX4_pays_184 : decode cX4_pays 184 = .ok (.iload_n 1, 1) := dk_27 (dk_at dksX4_pays_7 23 rfl rfl)
theorem dX4_pays_185 : decode cX4_pays 185 = .ok (.imul, 1) := dk_104 (dk_at dksX4_pays_8 0 rfl rfl)
theorem dX4_pays_186 : decode cX4_pays 186 = .ok (.iload 6, 2) := dk_21 6 (dk_at dksX4_pays_8 1 rfl rfl)
theorem dX4_pays_188 : decode cX4_pays 188 = .ok (.iadd, 1) := dk_96 (dk_at dksX4_pays_8 3 rfl rfl)
theorem dX4_pays_189 : decode cX4_pays 189 = .ok (.iaload, 1) := dk_46 (dk_at dksX4_pays_8 4 rfl rfl)
theorem dX4_pays_190 : decode cX4_pays 190 = .ok (.ifCond .ne 6, 3) := dk_154 0 6 (dk_at dksX4_pays_8 5 rfl rfl)
theorem dX4_pays_193 : decode cX4_pays 193 = .ok (.goto 152, 3) := dk_167 0 152 (dk_at dksX4_pays_8 8 rfl rfl)
theorem dX4_pays_196 : decode cX4_pays 196 = .ok (.aload_n 0, 1) := dk_42 (dk_at dksX4_pays_8 11 rfl rfl)
theorem dX4_pays_197 : decode cX4_pays 197 = .ok (.iload_n 2, 1) := dk_28 (dk_at dksX4_pays_8 12 rfl rfl)
theorem dX4_pays_198 : decode cX4_pays 198 = .ok (.iconst 2, 1) := dk_5 (dk_at dksX4_pays_8 13 rfl rfl)
theorem dX4_pays_199 : decode cX4_pays 199 = .ok (.iload_n 3, 1) := dk_29 (dk_at dksX4_pays_8 14 rfl rfl)
theorem dX4_pays_200 : decode cX4_pays 200 = .ok (.invokevirtual 537, 3) := dk_182 2 25 (dk_at dksX4_pays_8 15 rfl rfl)
theorem dX4_pays_203 : decode cX4_pays 203 = .ok (.i2l, 1) := dk_133 (dk_at dksX4_pays_8 18 rfl rfl)
theorem dX4_pays_204 : decode cX4_pays 204 = .ok (.aload_n 0, 1) := dk_42 (dk_at dksX4_pays_8 19 rfl rfl)
theorem dX4_pays_205 : decode cX4_pays 205 = .ok (.getfield 177, 3) := dk_180 0 177 (dk_at dksX4_pays_8 20 rfl rfl)
theorem dX4_pays_208 : decode cX4_pays 208 = .ok (.bipush 12, 2) := dk_16 12 (dk_at dksX4_pays_9 0 rfl rfl)
theorem dX4_pays_210 : decode cX4_pays 210 = .ok (.iload_n 1, 1) := dk_27 (dk_at dksX4_pays_9 2 rfl rfl)
theorem dX4_pays_211 : decode cX4_pays 211 = .ok (.imul, 1) := dk_104 (dk_at dksX4_pays_9 3 rfl rfl)
theorem dX4_pays_212 : decode cX4_pays 212 = .ok (.iload 6, 2) := dk_21 6 (dk_at dksX4_pays_9 4 rfl rfl)
theorem dX4_pays_214 : decode cX4_pays 214 = .ok (.iadd, 1) := dk_96 (dk_at dksX4_pays_9 6 rfl rfl)
theorem dX4_pays_215 : decode cX4_pays 215 = .ok (.iaload, 1) := dk_46 (dk_at dksX4_pays_9 7 rfl rfl)
theorem dX4_pays_216 : decode cX4_pays 216 = .ok (.i2l, 1) := dk_133 (dk_at dksX4_pays_9 8 rfl rfl)
theorem dX4_pays_217 : decode cX4_pays 217 = .ok (.lmul, 1) := dk_105 (dk_at dksX4_pays_9 9 rfl rfl)
theorem dX4_pays_218 : decode cX4_pays 218 = .ok (.aload_n 0, 1) := dk_42 (dk_at dksX4_pays_9 10 rfl rfl)
theorem dX4_pays_219 : decode cX4_pays 219 = .ok (.getfield 153, 3) := dk_180 0 153 (dk_at dksX4_pays_9 11 rfl rfl)
theorem dX4_pays_222 : decode cX4_pays 222 = .ok (.iload_n 1, 1) := dk_27 (dk_at dksX4_pays_9 14 rfl rfl)
theorem dX4_pays_223 : decode cX4_pays 223 = .ok (.iaload, 1) := dk_46 (dk_at dksX4_pays_9 15 rfl rfl)
theorem dX4_pays_224 : decode cX4_pays 224 = .ok (.i2l, 1) := dk_133 (dk_at dksX4_pays_9 16 rfl rfl)
theorem dX4_pays_225 : decode cX4_pays 225 = .ok (.ldiv, 1) := dk_109 (dk_at dksX4_pays_9 17 rfl rfl)
theorem dX4_pays_226 : decode cX4_pays 226 = .ok (.l2i, 1) := dk_136 (dk_at dksX4_pays_9 18 rfl rfl)
theorem dX4_pays_227 : decode cX4_pays 227 = .ok (.istore 5, 2) := dk_54 5 (dk_at dksX4_pays_9 19 rfl rfl)
theorem dX4_pays_229 : decode cX4_pays 229 = .ok (.aload_n 0, 1) := dk_42 (dk_at dksX4_pays_9 21 rfl rfl)
theorem dX4_pays_230 : decode cX4_pays 230 = .ok (.getfield 41, 3) := dk_180 0 41 (dk_at dksX4_pays_10 0 rfl rfl)
theorem dX4_pays_233 : decode cX4_pays 233 = .ok (.iload 6, 2) := dk_21 6 (dk_at dksX4_pays_10 3 rfl rfl)
theorem dX4_pays_235 : decode cX4_pays 235 = .ok (.iaload, 1) := dk_46 (dk_at dksX4_pays_10 5 rfl rfl)
theorem dX4_pays_236 : decode cX4_pays 236 = .ok (.iconst (-1), 1) := dk_2 (dk_at dksX4_pays_10 6 rfl rfl)
theorem dX4_pays_237 : decode cX4_pays 237 = .ok (.if_icmp .eq 27, 3) := dk_159 0 27 (dk_at dksX4_pays_10 7 rfl rfl)
theorem dX4_pays_240 : decode cX4_pays 240 = .ok (.aload_n 0, 1) := dk_42 (dk_at dksX4_pays_10 10 rfl rfl)
theorem dX4_pays_241 : decode cX4_pays 241 = .ok (.getfield 147, 3) := dk_180 0 147 (dk_at dksX4_pays_10 11 rfl rfl)
theorem dX4_pays_244 : decode cX4_pays 244 = .ok (.aload_n 0, 1) := dk_42 (dk_at dksX4_pays_10 14 rfl rfl)
theorem dX4_pays_245 : decode cX4_pays 245 = .ok (.getfield 41, 3) := dk_180 0 41 (dk_at dksX4_pays_10 15 rfl rfl)
theorem dX4_pays_248 : decode cX4_pays 248 = .ok (.iload 6, 2) := dk_21 6 (dk_at dksX4_pays_10 18 rfl rfl)
theorem dX4_pays_250 : decode cX4_pays 250 = .ok (.iaload, 1) := dk_46 (dk_at dksX4_pays_10 20 rfl rfl)
theorem dX4_pays_251 : decode cX4_pays 251 = .ok (.dup2, 1) := dk_92 (dk_at dksX4_pays_10 21 rfl rfl)
theorem dX4_pays_252 : decode cX4_pays 252 = .ok (.iaload, 1) := dk_46 (dk_at dksX4_pays_10 22 rfl rfl)
theorem dX4_pays_253 : decode cX4_pays 253 = .ok (.iload 5, 2) := dk_21 5 (dk_at dksX4_pays_11 0 rfl rfl)
theorem dX4_pays_255 : decode cX4_pays 255 = .ok (.iadd, 1) := dk_96 (dk_at dksX4_pays_11 2 rfl rfl)
theorem dX4_pays_256 : decode cX4_pays 256 = .ok (.iastore, 1) := dk_79 (dk_at dksX4_pays_11 3 rfl rfl)
theorem dX4_pays_257 : decode cX4_pays 257 = .ok (.iload 4, 2) := dk_21 4 (dk_at dksX4_pays_11 4 rfl rfl)
theorem dX4_pays_259 : decode cX4_pays 259 = .ok (.iload 5, 2) := dk_21 5 (dk_at dksX4_pays_11 6 rfl rfl)
theorem dX4_pays_261 : decode cX4_pays 261 = .ok (.isub, 1) := dk_100 (dk_at dksX4_pays_11 8 rfl rfl)
theorem dX4_pays_262 : decode cX4_pays 262 = .ok (.istore 4, 2) := dk_54 4 (dk_at dksX4_pays_11 9 rfl rfl)
theorem dX4_pays_264 : decode cX4_pays 264 = .ok (.aload_n 0, 1) := dk_42 (dk_at dksX4_pays_11 11 rfl rfl)
theorem dX4_pays_265 : decode cX4_pays 265 = .ok (.iload_n 2, 1) := dk_28 (dk_at dksX4_pays_11 12 rfl rfl)
theorem dX4_pays_266 : decode cX4_pays 266 = .ok (.iconst 3, 1) := dk_6 (dk_at dksX4_pays_11 13 rfl rfl)
theorem dX4_pays_267 : decode cX4_pays 267 = .ok (.iload_n 3, 1) := dk_29 (dk_at dksX4_pays_11 14 rfl rfl)
theorem dX4_pays_268 : decode cX4_pays 268 = .ok (.invokevirtual 537, 3) := dk_182 2 25 (dk_at dksX4_pays_11 15 rfl rfl)
theorem dX4_pays_271 : decode cX4_pays 271 = .ok (.i2l, 1) := dk_133 (dk_at dksX4_pays_11 18 rfl rfl)
theorem dX4_pays_272 : decode cX4_pays 272 = .ok (.aload_n 0, 1) := dk_42 (dk_at dksX4_pays_11 19 rfl rfl)
theorem dX4_pays_273 : decode cX4_pays 273 = .ok (.getfield 177, 3) := dk_180 0 177 (dk_at dksX4_pays_11 20 rfl rfl)
theorem dX4_pays_276 : decode cX4_pays 276 = .ok (.bipush 12, 2) := dk_16 12 (dk_at dksX4_pays_12 0 rfl rfl)
theorem dX4_pays_278 : decode cX4_pays 278 = .ok (.iload_n 1, 1) := dk_27 (dk_at dksX4_pays_12 2 rfl rfl)
theorem dX4_pays_279 : decode cX4_pays 279 = .ok (.imul, 1) := dk_104 (dk_at dksX4_pays_12 3 rfl rfl)
theorem dX4_pays_280 : decode cX4_pays 280 = .ok (.iload 6, 2) := dk_21 6 (dk_at dksX4_pays_12 4 rfl rfl)
theorem dX4_pays_282 : decode cX4_pays 282 = .ok (.iadd, 1) := dk_96 (dk_at dksX4_pays_12 6 rfl rfl)
theorem dX4_pays_283 : decode cX4_pays 283 = .ok (.iaload, 1) := dk_46 (dk_at dksX4_pays_12 7 rfl rfl)
theorem dX4_pays_284 : decode cX4_pays 284 = .ok (.i2l, 1) := dk_133 (dk_at dksX4_pays_12 8 rfl rfl)
theorem dX4_pays_285 : decode cX4_pays 285 = .ok (.lmul, 1) := dk_105 (dk_at dksX4_pays_12 9 rfl rfl)
theorem dX4_pays_286 : decode cX4_pays 286 = .ok (.aload_n 0, 1) := dk_42 (dk_at dksX4_pays_12 10 rfl rfl)
theorem dX4_pays_287 : decode cX4_pays 287 = .ok (.getfield 153, 3) := dk_180 0 153 (dk_at dksX4_pays_12 11 rfl rfl)
theorem dX4_pays_290 : decode cX4_pays 290 = .ok (.iload_n 1, 1) := dk_27 (dk_at dksX4_pays_12 14 rfl rfl)
theorem dX4_pays_291 : decode cX4_pays 291 = .ok (.iaload, 1) := dk_46 (dk_at dksX4_pays_12 15 rfl rfl)
theorem dX4_pays_292 : decode cX4_pays 292 = .ok (.i2l, 1) := dk_133 (dk_at dksX4_pays_12 16 rfl rfl)
theorem dX4_pays_293 : decode cX4_pays 293 = .ok (.ldiv, 1) := dk_109 (dk_at dksX4_pays_12 17 rfl rfl)
theorem dX4_pays_294 : decode cX4_pays 294 = .ok (.l2i, 1) := dk_136 (dk_at dksX4_pays_12 18 rfl rfl)
theorem dX4_pays_295 : decode cX4_pays 295 = .ok (.istore 5, 2) := dk_54 5 (dk_at dksX4_pays_12 19 rfl rfl)
theorem dX4_pays_297 : decode cX4_pays 297 = .ok (.aload_n 0, 1) := dk_42 (dk_at dksX4_pays_12 21 rfl rfl)
theorem dX4_pays_298 : decode cX4_pays 298 = .ok (.iload 6, 2) := dk_21 6 (dk_at dksX4_pays_12 22 rfl rfl)
theorem dX4_pays_300 : decode cX4_pays 300 = .ok (.aload_n 0, 1) := dk_42 (dk_at dksX4_pays_13 0 rfl rfl)
theorem dX4_pays_301 : decode cX4_pays 301 = .ok (.getfield 168, 3) := dk_180 0 168 (dk_at dksX4_pays_13 1 rfl rfl)
theorem dX4_pays_304 : decode cX4_pays 304 = .ok (.iload_n 1, 1) := dk_27 (dk_at dksX4_pays_13 4 rfl rfl)
theorem dX4_pays_305 : decode cX4_pays 305 = .ok (.iaload, 1) := dk_46 (dk_at dksX4_pays_13 5 rfl rfl)
theorem dX4_pays_306 : decode cX4_pays 306 = .ok (.bipush 60, 2) := dk_16 60 (dk_at dksX4_pays_13 6 rfl rfl)
theorem dX4_pays_308 : decode cX4_pays 308 = .ok (.idiv, 1) := dk_108 (dk_at dksX4_pays_13 8 rfl rfl)
theorem dX4_pays_309 : decode cX4_pays 309 = .ok (.aload_n 0, 1) := dk_42 (dk_at dksX4_pays_13 9 rfl rfl)
theorem dX4_pays_310 : decode cX4_pays 310 = .ok (.getfield 168, 3) := dk_180 0 168 (dk_at dksX4_pays_13 10 rfl rfl)
theorem dX4_pays_313 : decode cX4_pays 313 = .ok (.iload_n 1, 1) := dk_27 (dk_at dksX4_pays_13 13 rfl rfl)
theorem dX4_pays_314 : decode cX4_pays 314 = .ok (.iaload, 1) := dk_46 (dk_at dksX4_pays_13 14 rfl rfl)
theorem dX4_pays_315 : decode cX4_pays 315 = .ok (.invokevirtual 540, 3) := dk_182 2 28 (dk_at dksX4_pays_13 15 rfl rfl)
theorem dX4_pays_318 : decode cX4_pays 318 = .ok (.istore 7, 2) := dk_54 7 (dk_at dksX4_pays_13 18 rfl rfl)
theorem dX4_pays_320 : decode cX4_pays 320 = .ok (.iload 7, 2) := dk_21 7 (dk_at dksX4_pays_13 20 rfl rfl)
theorem dX4_pays_322 : decode cX4_pays 322 = .ok (.iconst (-1), 1) := dk_2 (dk_at dksX4_pays_13 22 rfl rfl)
theorem dX4_pays_323 : decode cX4_pays 323 = .ok (.if_icmp .eq 22, 3) := dk_159 0 22 (dk_at dksX4_pays_14 0 rfl rfl)
theorem dX4_pays_326 : decode cX4_pays 326 = .ok (.aload_n 0, 1) := dk_42 (dk_at dksX4_pays_14 3 rfl rfl)
theorem dX4_pays_327 : decode cX4_pays 327 = .ok (.getfield 186, 3) := dk_180 0 186 (dk_at dksX4_pays_14 4 rfl rfl)
theorem dX4_pays_330 : decode cX4_pays 330 = .ok (.iload 7, 2) := dk_21 7 (dk_at dksX4_pays_14 7 rfl rfl)
theorem dX4_pays_332 : decode cX4_pays 332 = .ok (.dup2, 1) := dk_92 (dk_at dksX4_pays_14 9 rfl rfl)
theorem dX4_pays_333 : decode cX4_pays 333 = .ok (.iaload, 1) := dk_46 (dk_at dksX4_pays_14 10 rfl rfl)
theorem dX4_pays_334 : decode cX4_pays 334 = .ok (.iload 5, 2) := dk_21 5 (dk_at dksX4_pays_14 11 rfl rfl)
theorem dX4_pays_336 : decode cX4_pays 336 = .ok (.iadd, 1) := dk_96 (dk_at dksX4_pays_14 13 rfl rfl)
theorem dX4_pays_337 : decode cX4_pays 337 = .ok (.iastore, 1) := dk_79 (dk_at dksX4_pays_14 14 rfl rfl)
theorem dX4_pays_338 : decode cX4_pays 338 = .ok (.iload 4, 2) := dk_21 4 (dk_at dksX4_pays_14 15 rfl rfl)
theorem dX4_pays_340 : decode cX4_pays 340 = .ok (.iload 5, 2) := dk_21 5 (dk_at dksX4_pays_14 17 rfl rfl)
theorem dX4_pays_342 : decode cX4_pays 342 = .ok (.isub, 1) := dk_100 (dk_at dksX4_pays_14 19 rfl rfl)
theorem dX4_pays_343 : decode cX4_pays 343 = .ok (.istore 4, 2) := dk_54 4 (dk_at dksX4_pays_14 20 rfl rfl)
theorem dX4_pays_345 : decode cX4_pays 345 = .ok (.iinc 6 1, 3) := dk_132 6 1 (dk_at dksX4_pays_15 0 rfl rfl)
theorem dX4_pays_348 : decode cX4_pays 348 = .ok (.goto (-179), 3) := dk_167 255 77 (dk_at dksX4_pays_15 3 rfl rfl)
theorem dX4_pays_351 : decode cX4_pays 351 = .ok (.iload 4, 2) := dk_21 4 (dk_at dksX4_pays_15 6 rfl rfl)
theorem dX4_pays_353 : decode cX4_pays 353 = .ok (.ireturn, 1) := dk_172 (dk_at dksX4_pays_15 8 rfl rfl)
abbrev cX4_share : ByteArray := prog_23_method_84_code
def yX4_share : MethodName := ⟨RX4, "share", "(III)I"⟩
def dkwX4_share_0 : List UInt8 := [27, 133, 42, 180, 0, 66, 28, 46, 133, 105, 29, 133, 109, 136, 172]
abbrev dktX4_share_0 : List UInt8 := dkwX4_share_0 ++ []
theorem dksX4_share_0 : cX4_share.data.toList.drop 0 = dktX4_share_0 := by decide +kernel
theorem dX4_share_0 : decode cX4_share 0 = .ok (.iload_n 1, 1) := dk_27 (dk_at dksX4_share_0 0 rfl rfl)
theorem dX4_share_1 : decode cX4_share 1 = .ok (.i2l, 1) := dk_133 (dk_at dksX4_share_0 1 rfl rfl)
theorem dX4_share_2 : decode cX4_share 2 = .ok (.aload_n 0, 1) := dk_42 (dk_at dksX4_share_0 2 rfl rfl)
theorem dX4_share_3 : decode cX4_share 3 = .ok (.getfield 66, 3) := dk_180 0 66 (dk_at dksX4_share_0 3 rfl rfl)
theorem dX4_share_6 : decode cX4_share 6 = .ok (.iload_n 2, 1) := dk_28 (dk_at dksX4_share_0 6 rfl rfl)
theorem dX4_share_7 : decode cX4_share 7 = .ok (.iaload, 1) := dk_46 (dk_at dksX4_share_0 7 rfl rfl)
theorem dX4_share_8 : decode cX4_share 8 = .ok (.i2l, 1) := dk_133 (dk_at dksX4_share_0 8 rfl rfl)
theorem dX4_share_9 : decode cX4_share 9 = .ok (.lmul, 1) := dk_105 (dk_at dksX4_share_0 9 rfl rfl)
theorem dX4_share_10 : decode cX4_share 10 = .ok (.iload_n 3, 1) := dk_29 (dk_at dksX4_share_0 10 rfl rfl)
theorem dX4_share_11 : decode cX4_share 11 = .ok (.i2l, 1) := dk_133 (dk_at dksX4_share_0 11 rfl rfl)
theorem dX4_share_12 : decode cX4_share 12 = .ok (.ldiv, 1) := dk_109 (dk_at dksX4_share_0 12 rfl rfl)
theorem dX4_share_13 : decode cX4_share 13 = .ok (.l2i, 1) := dk_136 (dk_at dksX4_share_0 13 rfl rfl)
theorem dX4_share_14 : decode cX4_share 14 = .ok (.ireturn, 1) := dk_172 (dk_at dksX4_share_0 14 rfl rfl)
abbrev cX4_whoseIs : ByteArray := prog_23_method_88_code
def yX4_whoseIs : MethodName := ⟨RX4, "whoseIs", "(III)I"⟩
def dkwX4_whoseIs_4 : List UInt8 := [180, 0, 216, 21, 4, 46, 172]
abbrev dktX4_whoseIs_4 : List UInt8 := dkwX4_whoseIs_4 ++ []
def dkwX4_whoseIs_3 : List UInt8 := [161, 0, 7, 21, 5, 54, 4, 132, 5, 1, 167, 255, 184, 21, 4, 2, 160, 0, 7, 2, 167, 0, 10, 42]
abbrev dktX4_whoseIs_3 : List UInt8 := dkwX4_whoseIs_3 ++ dktX4_whoseIs_4
def dkwX4_whoseIs_2 : List UInt8 := [163, 0, 30, 21, 4, 2, 159, 0, 20, 42, 180, 0, 219, 21, 5, 46, 42, 180, 0, 219, 21, 4, 46]
abbrev dktX4_whoseIs_2 : List UInt8 := dkwX4_whoseIs_2 ++ dktX4_whoseIs_3
def dkwX4_whoseIs_1 : List UInt8 := [160, 0, 52, 42, 180, 0, 219, 21, 5, 46, 28, 163, 0, 41, 42, 180, 0, 222, 21, 5, 46, 29]
abbrev dktX4_whoseIs_1 : List UInt8 := dkwX4_whoseIs_1 ++ dktX4_whoseIs_2
def dkwX4_whoseIs_0 : List UInt8 := [2, 54, 4, 3, 54, 5, 21, 5, 42, 180, 2, 31, 162, 0, 69, 42, 180, 0, 213, 21, 5, 46, 27]
abbrev dktX4_whoseIs_0 : List UInt8 := dkwX4_whoseIs_0 ++ dktX4_whoseIs_1
theorem dksX4_whoseIs_0 : cX4_whoseIs.data.toList.drop 0 = dktX4_whoseIs_0 := by decide +kernel
theorem dksX4_whoseIs_1 : cX4_whoseIs.data.toList.drop 23 = dktX4_whoseIs_1 := dk_seg dksX4_whoseIs_0 23 rfl rfl
theorem dksX4_whoseIs_2 : cX4_whoseIs.data.toList.drop 45 = dktX4_whoseIs_2 := dk_seg dksX4_whoseIs_1 22 rfl rfl
theorem dksX4_whoseIs_3 : cX4_whoseIs.data.toList.drop 68 = dktX4_whoseIs_3 := dk_seg dksX4_whoseIs_2 23 rfl rfl
theorem dksX4_whoseIs_4 : cX4_whoseIs.data.toList.drop 92 = dktX4_whoseIs_4 := dk_seg dksX4_whoseIs_3 24 rfl rfl
theorem dX4_whoseIs_0 : decode cX4_whoseIs 0 = .ok (.iconst (-1), 1) := dk_2 (dk_at dksX4_whoseIs_0 0 rfl rfl)
theorem dX4_whoseIs_1 : decode cX4_whoseIs 1 = .ok (.istore 4, 2) := dk_54 4 (dk_at dksX4_whoseIs_0 1 rfl rfl)
theorem dX4_whoseIs_3 : decode cX4_whoseIs 3 = .ok (.iconst 0, 1) := dk_3 (dk_at dksX4_whoseIs_0 3 rfl rfl)
theorem dX4_whoseIs_4 : decode cX4_whoseIs 4 = .ok (.istore 5, 2) := dk_54 5 (dk_at dksX4_whoseIs_0 4 rfl rfl)
theorem dX4_whoseIs_6 : decode cX4_whoseIs 6 = .ok (.iload 5, 2) := dk_21 5 (dk_at dksX4_whoseIs_0 6 rfl rfl)
theorem dX4_whoseIs_8 : decode cX4_whoseIs 8 = .ok (.aload_n 0, 1) := dk_42 (dk_at dksX4_whoseIs_0 8 rfl rfl)
theorem dX4_whoseIs_9 : decode cX4_whoseIs 9 = .ok (.getfield 543, 3) := dk_180 2 31 (dk_at dksX4_whoseIs_0 9 rfl rfl)
theorem dX4_whoseIs_12 : decode cX4_whoseIs 12 = .ok (.if_icmp .ge 69, 3) := dk_162 0 69 (dk_at dksX4_whoseIs_0 12 rfl rfl)
theorem dX4_whoseIs_15 : decode cX4_whoseIs 15 = .ok (.aload_n 0, 1) := dk_42 (dk_at dksX4_whoseIs_0 15 rfl rfl)
theorem dX4_whoseIs_16 : decode cX4_whoseIs 16 = .ok (.getfield 213, 3) := dk_180 0 213 (dk_at dksX4_whoseIs_0 16 rfl rfl)
theorem dX4_whoseIs_19 : decode cX4_whoseIs 19 = .ok (.iload 5, 2) := dk_21 5 (dk_at dksX4_whoseIs_0 19 rfl rfl)
theorem dX4_whoseIs_21 : decode cX4_whoseIs 21 = .ok (.iaload, 1) := dk_46 (dk_at dksX4_whoseIs_0 21 rfl rfl)
theorem dX4_whoseIs_22 : decode cX4_whoseIs 22 = .ok (.iload_n 1, 1) := dk_27 (dk_at dksX4_whoseIs_0 22 rfl rfl)
theorem dX4_whoseIs_23 : decode cX4_whoseIs 23 = .ok (.if_icmp .ne 52, 3) := dk_160 0 52 (dk_at dksX4_whoseIs_1 0 rfl rfl)
theorem dX4_whoseIs_26 : decode cX4_whoseIs 26 = .ok (.aload_n 0, 1) := dk_42 (dk_at dksX4_whoseIs_1 3 rfl rfl)
theorem dX4_whoseIs_27 : decode cX4_whoseIs 27 = .ok (.getfield 219, 3) := dk_180 0 219 (dk_at dksX4_whoseIs_1 4 rfl rfl)
theorem dX4_whoseIs_30 : decode cX4_whoseIs 30 = .ok (.iload 5, 2) := dk_21 5 (dk_at dksX4_whoseIs_1 7 rfl rfl)
theorem dX4_whoseIs_32 : decode cX4_whoseIs 32 = .ok (.iaload, 1) := dk_46 (dk_at dksX4_whoseIs_1 9 rfl rfl)
theorem dX4_whoseIs_33 : decode cX4_whoseIs 33 = .ok (.iload_n 2, 1) := dk_28 (dk_at dksX4_whoseIs_1 10 rfl rfl)
theorem dX4_whoseIs_34 : decode cX4_whoseIs 34 = .ok (.if_icmp .gt 41, 3) := dk_163 0 41 (dk_at dksX4_whoseIs_1 11 rfl rfl)
theorem dX4_whoseIs_37 : decode cX4_whoseIs 37 = .ok (.aload_n 0, 1) := dk_42 (dk_at dksX4_whoseIs_1 14 rfl rfl)
theorem dX4_whoseIs_38 : decode cX4_whoseIs 38 = .ok (.getfield 222, 3) := dk_180 0 222 (dk_at dksX4_whoseIs_1 15 rfl rfl)
theorem dX4_whoseIs_41 : decode cX4_whoseIs 41 = .ok (.iload 5, 2) := dk_21 5 (dk_at dksX4_whoseIs_1 18 rfl rfl)
theorem dX4_whoseIs_43 : decode cX4_whoseIs 43 = .ok (.iaload, 1) := dk_46 (dk_at dksX4_whoseIs_1 20 rfl rfl)
theorem dX4_whoseIs_44 : decode cX4_whoseIs 44 = .ok (.iload_n 3, 1) := dk_29 (dk_at dksX4_whoseIs_1 21 rfl rfl)
theorem dX4_whoseIs_45 : decode cX4_whoseIs 45 = .ok (.if_icmp .gt 30, 3) := dk_163 0 30 (dk_at dksX4_whoseIs_2 0 rfl rfl)
theorem dX4_whoseIs_48 : decode cX4_whoseIs 48 = .ok (.iload 4, 2) := dk_21 4 (dk_at dksX4_whoseIs_2 3 rfl rfl)
theorem dX4_whoseIs_50 : decode cX4_whoseIs 50 = .ok (.iconst (-1), 1) := dk_2 (dk_at dksX4_whoseIs_2 5 rfl rfl)
theorem dX4_whoseIs_51 : decode cX4_whoseIs 51 = .ok (.if_icmp .eq 20, 3) := dk_159 0 20 (dk_at dksX4_whoseIs_2 6 rfl rfl)
theorem dX4_whoseIs_54 : decode cX4_whoseIs 54 = .ok (.aload_n 0, 1) := dk_42 (dk_at dksX4_whoseIs_2 9 rfl rfl)
theorem dX4_whoseIs_55 : decode cX4_whoseIs 55 = .ok (.getfield 219, 3) := dk_180 0 219 (dk_at dksX4_whoseIs_2 10 rfl rfl)
theorem dX4_whoseIs_58 : decode cX4_whoseIs 58 = .ok (.iload 5, 2) := dk_21 5 (dk_at dksX4_whoseIs_2 13 rfl rfl)
theorem dX4_whoseIs_60 : decode cX4_whoseIs 60 = .ok (.iaload, 1) := dk_46 (dk_at dksX4_whoseIs_2 15 rfl rfl)
theorem dX4_whoseIs_61 : decode cX4_whoseIs 61 = .ok (.aload_n 0, 1) := dk_42 (dk_at dksX4_whoseIs_2 16 rfl rfl)
theorem dX4_whoseIs_62 : decode cX4_whoseIs 62 = .ok (.getfield 219, 3) := dk_180 0 219 (dk_at dksX4_whoseIs_2 17 rfl rfl)
theorem dX4_whoseIs_65 : decode cX4_whoseIs 65 = .ok (.iload 4, 2) := dk_21 4 (dk_at dksX4_whoseIs_2 20 rfl rfl)
theorem dX4_whoseIs_67 : decode cX4_whoseIs 67 = .ok (.iaload, 1) := dk_46 (dk_at dksX4_whoseIs_2 22 rfl rfl)
theorem dX4_whoseIs_68 : decode cX4_whoseIs 68 = .ok (.if_icmp .lt 7, 3) := dk_161 0 7 (dk_at dksX4_whoseIs_3 0 rfl rfl)
theorem dX4_whoseIs_71 : decode cX4_whoseIs 71 = .ok (.iload 5, 2) := dk_21 5 (dk_at dksX4_whoseIs_3 3 rfl rfl)
theorem dX4_whoseIs_73 : decode cX4_whoseIs 73 = .ok (.istore 4, 2) := dk_54 4 (dk_at dksX4_whoseIs_3 5 rfl rfl)
theorem dX4_whoseIs_75 : decode cX4_whoseIs 75 = .ok (.iinc 5 1, 3) := dk_132 5 1 (dk_at dksX4_whoseIs_3 7 rfl rfl)
theorem dX4_whoseIs_78 : decode cX4_whoseIs 78 = .ok (.goto (-72), 3) := dk_167 255 184 (dk_at dksX4_whoseIs_3 10 rfl rfl)
theorem dX4_whoseIs_81 : decode cX4_whoseIs 81 = .ok (.iload 4, 2) := dk_21 4 (dk_at dksX4_whoseIs_3 13 rfl rfl)
theorem dX4_whoseIs_83 : decode cX4_whoseIs 83 = .ok (.iconst (-1), 1) := dk_2 (dk_at dksX4_whoseIs_3 15 rfl rfl)
theorem dX4_whoseIs_84 : decode cX4_whoseIs 84 = .ok (.if_icmp .ne 7, 3) := dk_160 0 7 (dk_at dksX4_whoseIs_3 16 rfl rfl)
theorem dX4_whoseIs_87 : decode cX4_whoseIs 87 = .ok (.iconst (-1), 1) := dk_2 (dk_at dksX4_whoseIs_3 19 rfl rfl)
theorem dX4_whoseIs_88 : decode cX4_whoseIs 88 = .ok (.goto 10, 3) := dk_167 0 10 (dk_at dksX4_whoseIs_3 20 rfl rfl)
theorem dX4_whoseIs_91 : decode cX4_whoseIs 91 = .ok (.aload_n 0, 1) := dk_42 (dk_at dksX4_whoseIs_3 23 rfl rfl)
theorem dX4_whoseIs_92 : decode cX4_whoseIs 92 = .ok (.getfield 216, 3) := dk_180 0 216 (dk_at dksX4_whoseIs_4 0 rfl rfl)
theorem dX4_whoseIs_95 : decode cX4_whoseIs 95 = .ok (.iload 4, 2) := dk_21 4 (dk_at dksX4_whoseIs_4 3 rfl rfl)
theorem dX4_whoseIs_97 : decode cX4_whoseIs 97 = .ok (.iaload, 1) := dk_46 (dk_at dksX4_whoseIs_4 5 rfl rfl)
theorem dX4_whoseIs_98 : decode cX4_whoseIs 98 = .ok (.ireturn, 1) := dk_172 (dk_at dksX4_whoseIs_4 6 rfl rfl)
abbrev cX4_village : ByteArray := prog_23_method_86_code
def yX4_village : MethodName := ⟨RX4, "village", "(I)I"⟩
def dkwX4_village_0 : List UInt8 := [27, 3, 4, 184, 0, 244, 153, 0, 12, 42, 180, 0, 186, 27, 46, 167, 0, 4, 2, 172]
abbrev dktX4_village_0 : List UInt8 := dkwX4_village_0 ++ []
theorem dksX4_village_0 : cX4_village.data.toList.drop 0 = dktX4_village_0 := by decide +kernel
theorem dX4_village_0 : decode cX4_village 0 = .ok (.iload_n 1, 1) := dk_27 (dk_at dksX4_village_0 0 rfl rfl)
theorem dX4_village_1 : decode cX4_village 1 = .ok (.iconst 0, 1) := dk_3 (dk_at dksX4_village_0 1 rfl rfl)
theorem dX4_village_2 : decode cX4_village 2 = .ok (.iconst 1, 1) := dk_4 (dk_at dksX4_village_0 2 rfl rfl)
theorem dX4_village_3 : decode cX4_village 3 = .ok (.invokestatic 244, 3) := dk_184 0 244 (dk_at dksX4_village_0 3 rfl rfl)
theorem dX4_village_6 : decode cX4_village 6 = .ok (.ifCond .eq 12, 3) := dk_153 0 12 (dk_at dksX4_village_0 6 rfl rfl)
theorem dX4_village_9 : decode cX4_village 9 = .ok (.aload_n 0, 1) := dk_42 (dk_at dksX4_village_0 9 rfl rfl)
theorem dX4_village_10 : decode cX4_village 10 = .ok (.getfield 186, 3) := dk_180 0 186 (dk_at dksX4_village_0 10 rfl rfl)
theorem dX4_village_13 : decode cX4_village 13 = .ok (.iload_n 1, 1) := dk_27 (dk_at dksX4_village_0 13 rfl rfl)
theorem dX4_village_14 : decode cX4_village 14 = .ok (.iaload, 1) := dk_46 (dk_at dksX4_village_0 14 rfl rfl)
theorem dX4_village_15 : decode cX4_village 15 = .ok (.goto 4, 3) := dk_167 0 4 (dk_at dksX4_village_0 15 rfl rfl)
theorem dX4_village_18 : decode cX4_village 18 = .ok (.iconst (-1), 1) := dk_2 (dk_at dksX4_village_0 18 rfl rfl)
theorem dX4_village_19 : decode cX4_village 19 = .ok (.ireturn, 1) := dk_172 (dk_at dksX4_village_0 19 rfl rfl)
abbrev cX4_claim : ByteArray := prog_23_method_87_code
def yX4_claim : MethodName := ⟨RX4, "claim", "(III)I"⟩
def dkwX4_claim_3 : List UInt8 := [42, 180, 2, 31, 42, 180, 0, 234, 79, 42, 89, 180, 2, 31, 4, 96, 181, 2, 31, 42, 180, 2, 31, 172]
abbrev dktX4_claim_3 : List UInt8 := dkwX4_claim_3 ++ []
def dkwX4_claim_2 : List UInt8 := [42, 180, 0, 216, 42, 180, 2, 31, 28, 79, 42, 180, 0, 219, 42, 180, 2, 31, 29, 79, 42, 180, 0, 222]
abbrev dktX4_claim_2 : List UInt8 := dkwX4_claim_2 ++ dktX4_claim_3
def dkwX4_claim_1 : List UInt8 := [153, 0, 12, 42, 180, 2, 31, 16, 100, 160, 0, 5, 2, 172, 42, 180, 0, 213, 42, 180, 2, 31, 27, 79]
abbrev dktX4_claim_1 : List UInt8 := dkwX4_claim_1 ++ dktX4_claim_2
def dkwX4_claim_0 : List UInt8 := [42, 27, 182, 0, 255, 153, 0, 31, 28, 2, 4, 184, 0, 244, 153, 0, 22, 29, 3, 16, 39, 184, 0, 244]
abbrev dktX4_claim_0 : List UInt8 := dkwX4_claim_0 ++ dktX4_claim_1
theorem dksX4_claim_0 : cX4_claim.data.toList.drop 0 = dktX4_claim_0 := by decide +kernel
theorem dksX4_claim_1 : cX4_claim.data.toList.drop 24 = dktX4_claim_1 := dk_seg dksX4_claim_0 24 rfl rfl
theorem dksX4_claim_2 : cX4_claim.data.toList.drop 48 = dktX4_claim_2 := dk_seg dksX4_claim_1 24 rfl rfl
theorem dksX4_claim_3 : cX4_claim.data.toList.drop 72 = dktX4_claim_3 := dk_seg dksX4_claim_2 24 rfl rfl
theorem dX4_claim_0 : decode cX4_claim 0 = .ok (.aload_n 0, 1) := dk_42 (dk_at dksX4_claim_0 0 rfl rfl)
theorem dX4_claim_1 : decode cX4_claim 1 = .ok (.iload_n 1, 1) := dk_27 (dk_at dksX4_claim_0 1 rfl rfl)
theorem dX4_claim_2 : decode cX4_claim 2 = .ok (.invokevirtual 255, 3) := dk_182 0 255 (dk_at dksX4_claim_0 2 rfl rfl)
theorem dX4_claim_5 : decode cX4_claim 5 = .ok (.ifCond .eq 31, 3) := dk_153 0 31 (dk_at dksX4_claim_0 5 rfl rfl)
theorem dX4_claim_8 : decode cX4_claim 8 = .ok (.iload_n 2, 1) := dk_28 (dk_at dksX4_claim_0 8 rfl rfl)
theorem dX4_claim_9 : decode cX4_claim 9 = .ok (.iconst (-1), 1) := dk_2 (dk_at dksX4_claim_0 9 rfl rfl)
theorem dX4_claim_10 : decode cX4_claim 10 = .ok (.iconst 1, 1) := dk_4 (dk_at dksX4_claim_0 10 rfl rfl)
theorem dX4_claim_11 : decode cX4_claim 11 = .ok (.invokestatic 244, 3) := dk_184 0 244 (dk_at dksX4_claim_0 11 rfl rfl)
theorem dX4_claim_14 : decode cX4_claim 14 = .ok (.ifCond .eq 22, 3) := dk_153 0 22 (dk_at dksX4_claim_0 14 rfl rfl)
theorem dX4_claim_17 : decode cX4_claim 17 = .ok (.iload_n 3, 1) := dk_29 (dk_at dksX4_claim_0 17 rfl rfl)
theorem dX4_claim_18 : decode cX4_claim 18 = .ok (.iconst 0, 1) := dk_3 (dk_at dksX4_claim_0 18 rfl rfl)
theorem dX4_claim_19 : decode cX4_claim 19 = .ok (.bipush 39, 2) := dk_16 39 (dk_at dksX4_claim_0 19 rfl rfl)
theorem dX4_claim_21 : decode cX4_claim 21 = .ok (.invokestatic 244, 3) := dk_184 0 244 (dk_at dksX4_claim_0 21 rfl rfl)
theorem dX4_claim_24 : decode cX4_claim 24 = .ok (.ifCond .eq 12, 3) := dk_153 0 12 (dk_at dksX4_claim_1 0 rfl rfl)
theorem dX4_claim_27 : decode cX4_claim 27 = .ok (.aload_n 0, 1) := dk_42 (dk_at dksX4_claim_1 3 rfl rfl)
theorem dX4_claim_28 : decode cX4_claim 28 = .ok (.getfield 543, 3) := dk_180 2 31 (dk_at dksX4_claim_1 4 rfl rfl)
theorem dX4_claim_31 : decode cX4_claim 31 = .ok (.bipush 100, 2) := dk_16 100 (dk_at dksX4_claim_1 7 rfl rfl)
theorem dX4_claim_33 : decode cX4_claim 33 = .ok (.if_icmp .ne 5, 3) := dk_160 0 5 (dk_at dksX4_claim_1 9 rfl rfl)
theorem dX4_claim_36 : decode cX4_claim 36 = .ok (.iconst (-1), 1) := dk_2 (dk_at dksX4_claim_1 12 rfl rfl)
theorem dX4_claim_37 : decode cX4_claim 37 = .ok (.ireturn, 1) := dk_172 (dk_at dksX4_claim_1 13 rfl rfl)
theorem dX4_claim_38 : decode cX4_claim 38 = .ok (.aload_n 0, 1) := dk_42 (dk_at dksX4_claim_1 14 rfl rfl)
theorem dX4_claim_39 : decode cX4_claim 39 = .ok (.getfield 213, 3) := dk_180 0 213 (dk_at dksX4_claim_1 15 rfl rfl)
theorem dX4_claim_42 : decode cX4_claim 42 = .ok (.aload_n 0, 1) := dk_42 (dk_at dksX4_claim_1 18 rfl rfl)
theorem dX4_claim_43 : decode cX4_claim 43 = .ok (.getfield 543, 3) := dk_180 2 31 (dk_at dksX4_claim_1 19 rfl rfl)
theorem dX4_claim_46 : decode cX4_claim 46 = .ok (.iload_n 1, 1) := dk_27 (dk_at dksX4_claim_1 22 rfl rfl)
theorem dX4_claim_47 : decode cX4_claim 47 = .ok (.iastore, 1) := dk_79 (dk_at dksX4_claim_1 23 rfl rfl)
theorem dX4_claim_48 : decode cX4_claim 48 = .ok (.aload_n 0, 1) := dk_42 (dk_at dksX4_claim_2 0 rfl rfl)
theorem dX4_claim_49 : decode cX4_claim 49 = .ok (.getfield 216, 3) := dk_180 0 216 (dk_at dksX4_claim_2 1 rfl rfl)
theorem dX4_claim_52 : decode cX4_claim 52 = .ok (.aload_n 0, 1) := dk_42 (dk_at dksX4_claim_2 4 rfl rfl)
theorem dX4_claim_53 : decode cX4_claim 53 = .ok (.getfield 543, 3) := dk_180 2 31 (dk_at dksX4_claim_2 5 rfl rfl)
theorem dX4_claim_56 : decode cX4_claim 56 = .ok (.iload_n 2, 1) := dk_28 (dk_at dksX4_claim_2 8 rfl rfl)
theorem dX4_claim_57 : decode cX4_claim 57 = .ok (.iastore, 1) := dk_79 (dk_at dksX4_claim_2 9 rfl rfl)
theorem dX4_claim_58 : decode cX4_claim 58 = .ok (.aload_n 0, 1) := dk_42 (dk_at dksX4_claim_2 10 rfl rfl)
theorem dX4_claim_59 : decode cX4_claim 59 = .ok (.getfield 219, 3) := dk_180 0 219 (dk_at dksX4_claim_2 11 rfl rfl)
theorem dX4_claim_62 : decode cX4_claim 62 = .ok (.aload_n 0, 1) := dk_42 (dk_at dksX4_claim_2 14 rfl rfl)
theorem dX4_claim_63 : decode cX4_claim 63 = .ok (.getfield 543, 3) := dk_180 2 31 (dk_at dksX4_claim_2 15 rfl rfl)
theorem dX4_claim_66 : decode cX4_claim 66 = .ok (.iload_n 3, 1) := dk_29 (dk_at dksX4_claim_2 18 rfl rfl)
theorem dX4_claim_67 : decode cX4_claim 67 = .ok (.iastore, 1) := dk_79 (dk_at dksX4_claim_2 19 rfl rfl)
theorem dX4_claim_68 : decode cX4_claim 68 = .ok (.aload_n 0, 1) := dk_42 (dk_at dksX4_claim_2 20 rfl rfl)
theorem dX4_claim_69 : decode cX4_claim 69 = .ok (.getfield 222, 3) := dk_180 0 222 (dk_at dksX4_claim_2 21 rfl rfl)
theorem dX4_claim_72 : decode cX4_claim 72 = .ok (.aload_n 0, 1) := dk_42 (dk_at dksX4_claim_3 0 rfl rfl)
theorem dX4_claim_73 : decode cX4_claim 73 = .ok (.getfield 543, 3) := dk_180 2 31 (dk_at dksX4_claim_3 1 rfl rfl)
theorem dX4_claim_76 : decode cX4_claim 76 = .ok (.aload_n 0, 1) := dk_42 (dk_at dksX4_claim_3 4 rfl rfl)
theorem dX4_claim_77 : decode cX4_claim 77 = .ok (.getfield 234, 3) := dk_180 0 234 (dk_at dksX4_claim_3 5 rfl rfl)
theorem dX4_claim_80 : decode cX4_claim 80 = .ok (.iastore, 1) := dk_79 (dk_at dksX4_claim_3 8 rfl rfl)
theorem dX4_claim_81 : decode cX4_claim 81 = .ok (.aload_n 0, 1) := dk_42 (dk_at dksX4_claim_3 9 rfl rfl)
theorem dX4_claim_82 : decode cX4_claim 82 = .ok (.dup, 1) := dk_89 (dk_at dksX4_claim_3 10 rfl rfl)
theorem dX4_claim_83 : decode cX4_claim 83 = .ok (.getfield 543, 3) := dk_180 2 31 (dk_at dksX4_claim_3 11 rfl rfl)
theorem dX4_claim_86 : decode cX4_claim 86 = .ok (.iconst 1, 1) := dk_4 (dk_at dksX4_claim_3 14 rfl rfl)
theorem dX4_claim_87 : decode cX4_claim 87 = .ok (.iadd, 1) := dk_96 (dk_at dksX4_claim_3 15 rfl rfl)
theorem dX4_claim_88 : decode cX4_claim 88 = .ok (.putfield 543, 3) := dk_181 2 31 (dk_at dksX4_claim_3 16 rfl rfl)
theorem dX4_claim_91 : decode cX4_claim 91 = .ok (.aload_n 0, 1) := dk_42 (dk_at dksX4_claim_3 19 rfl rfl)
theorem dX4_claim_92 : decode cX4_claim 92 = .ok (.getfield 543, 3) := dk_180 2 31 (dk_at dksX4_claim_3 20 rfl rfl)
theorem dX4_claim_95 : decode cX4_claim 95 = .ok (.ireturn, 1) := dk_172 (dk_at dksX4_claim_3 23 rfl rfl)
abbrev cX4_whose : ByteArray := prog_23_method_89_code
def yX4_whose : MethodName := ⟨RX4, "whose", "(III)I"⟩
def dkwX4_whose_1 : List UInt8 := [184, 0, 244, 153, 0, 13, 42, 27, 28, 29, 182, 2, 28, 167, 0, 5, 16, 254, 172]
abbrev dktX4_whose_1 : List UInt8 := dkwX4_whose_1 ++ []
def dkwX4_whose_0 : List UInt8 := [42, 27, 182, 0, 255, 153, 0, 35, 28, 3, 16, 39, 184, 0, 244, 153, 0, 25, 29, 3, 42, 180, 0, 234]
abbrev dktX4_whose_0 : List UInt8 := dkwX4_whose_0 ++ dktX4_whose_1
theorem dksX4_whose_0 : cX4_whose.data.toList.drop 0 = dktX4_whose_0 := by decide +kernel
theorem dksX4_whose_1 : cX4_whose.data.toList.drop 24 = dktX4_whose_1 := dk_seg dksX4_whose_0 24 rfl rfl
theorem dX4_whose_0 : decode cX4_whose 0 = .ok (.aload_n 0, 1) := dk_42 (dk_at dksX4_whose_0 0 rfl rfl)
theorem dX4_whose_1 : decode cX4_whose 1 = .ok (.iload_n 1, 1) := dk_27 (dk_at dksX4_whose_0 1 rfl rfl)
theorem dX4_whose_2 : decode cX4_whose 2 = .ok (.invokevirtual 255, 3) := dk_182 0 255 (dk_at dksX4_whose_0 2 rfl rfl)
theorem dX4_whose_5 : decode cX4_whose 5 = .ok (.ifCond .eq 35, 3) := dk_153 0 35 (dk_at dksX4_whose_0 5 rfl rfl)
theorem dX4_whose_8 : decode cX4_whose 8 = .ok (.iload_n 2, 1) := dk_28 (dk_at dksX4_whose_0 8 rfl rfl)
theorem dX4_whose_9 : decode cX4_whose 9 = .ok (.iconst 0, 1) := dk_3 (dk_at dksX4_whose_0 9 rfl rfl)
theorem dX4_whose_10 : decode cX4_whose 10 = .ok (.bipush 39, 2) := dk_16 39 (dk_at dksX4_whose_0 10 rfl rfl)
theorem dX4_whose_12 : decode cX4_whose 12 = .ok (.invokestatic 244, 3) := dk_184 0 244 (dk_at dksX4_whose_0 12 rfl rfl)
theorem dX4_whose_15 : decode cX4_whose 15 = .ok (.ifCond .eq 25, 3) := dk_153 0 25 (dk_at dksX4_whose_0 15 rfl rfl)
theorem dX4_whose_18 : decode cX4_whose 18 = .ok (.iload_n 3, 1) := dk_29 (dk_at dksX4_whose_0 18 rfl rfl)
theorem dX4_whose_19 : decode cX4_whose 19 = .ok (.iconst 0, 1) := dk_3 (dk_at dksX4_whose_0 19 rfl rfl)
theorem dX4_whose_20 : decode cX4_whose 20 = .ok (.aload_n 0, 1) := dk_42 (dk_at dksX4_whose_0 20 rfl rfl)
theorem dX4_whose_21 : decode cX4_whose 21 = .ok (.getfield 234, 3) := dk_180 0 234 (dk_at dksX4_whose_0 21 rfl rfl)
theorem dX4_whose_24 : decode cX4_whose 24 = .ok (.invokestatic 244, 3) := dk_184 0 244 (dk_at dksX4_whose_1 0 rfl rfl)
theorem dX4_whose_27 : decode cX4_whose 27 = .ok (.ifCond .eq 13, 3) := dk_153 0 13 (dk_at dksX4_whose_1 3 rfl rfl)
theorem dX4_whose_30 : decode cX4_whose 30 = .ok (.aload_n 0, 1) := dk_42 (dk_at dksX4_whose_1 6 rfl rfl)
theorem dX4_whose_31 : decode cX4_whose 31 = .ok (.iload_n 1, 1) := dk_27 (dk_at dksX4_whose_1 7 rfl rfl)
theorem dX4_whose_32 : decode cX4_whose 32 = .ok (.iload_n 2, 1) := dk_28 (dk_at dksX4_whose_1 8 rfl rfl)
theorem dX4_whose_33 : decode cX4_whose 33 = .ok (.iload_n 3, 1) := dk_29 (dk_at dksX4_whose_1 9 rfl rfl)
theorem dX4_whose_34 : decode cX4_whose 34 = .ok (.invokevirtual 540, 3) := dk_182 2 28 (dk_at dksX4_whose_1 10 rfl rfl)
theorem dX4_whose_37 : decode cX4_whose 37 = .ok (.goto 5, 3) := dk_167 0 5 (dk_at dksX4_whose_1 13 rfl rfl)
theorem dX4_whose_40 : decode cX4_whose 40 = .ok (.bipush (-2), 2) := dk_16 254 (dk_at dksX4_whose_1 16 rfl rfl)
theorem dX4_whose_42 : decode cX4_whose 42 = .ok (.ireturn, 1) := dk_172 (dk_at dksX4_whose_1 18 rfl rfl)
abbrev cX4_count : ByteArray := prog_23_method_90_code
def yX4_count : MethodName := ⟨RX4, "count", "(III)I"⟩
def dkwX4_count_5 : List UInt8 := [164, 0, 7, 3, 167, 0, 4, 4, 172]
abbrev dktX4_count_5 : List UInt8 := dkwX4_count_5 ++ []
def dkwX4_count_4 : List UInt8 := [79, 42, 180, 0, 47, 27, 21, 4, 21, 5, 164, 0, 7, 29, 167, 0, 5, 21, 5, 79, 21, 4, 21, 5]
abbrev dktX4_count_4 : List UInt8 := dkwX4_count_4 ++ dktX4_count_5
def dkwX4_count_3 : List UInt8 := [167, 0, 4, 29, 54, 5, 42, 180, 0, 44, 27, 21, 4, 21, 5, 164, 0, 7, 28, 167, 0, 5, 21, 4]
abbrev dktX4_count_3 : List UInt8 := dkwX4_count_3 ++ dktX4_count_4
def dkwX4_count_2 : List UInt8 := [167, 0, 4, 28, 54, 4, 42, 180, 0, 47, 27, 46, 29, 162, 0, 12, 42, 180, 0, 47, 27, 46]
abbrev dktX4_count_2 : List UInt8 := dkwX4_count_2 ++ dktX4_count_3
def dkwX4_count_1 : List UInt8 := [184, 0, 244, 154, 0, 5, 2, 172, 42, 180, 0, 44, 27, 46, 28, 164, 0, 12, 42, 180, 0, 44, 27, 46]
abbrev dktX4_count_1 : List UInt8 := dkwX4_count_1 ++ dktX4_count_2
def dkwX4_count_0 : List UInt8 := [42, 27, 182, 0, 255, 153, 0, 23, 28, 3, 16, 9, 184, 0, 244, 153, 0, 13, 29, 28, 16, 9]
abbrev dktX4_count_0 : List UInt8 := dkwX4_count_0 ++ dktX4_count_1
theorem dksX4_count_0 : cX4_count.data.toList.drop 0 = dktX4_count_0 := by decide +kernel
theorem dksX4_count_1 : cX4_count.data.toList.drop 22 = dktX4_count_1 := dk_seg dksX4_count_0 22 rfl rfl
theorem dksX4_count_2 : cX4_count.data.toList.drop 46 = dktX4_count_2 := dk_seg dksX4_count_1 24 rfl rfl
theorem dksX4_count_3 : cX4_count.data.toList.drop 68 = dktX4_count_3 := dk_seg dksX4_count_2 22 rfl rfl
theorem dksX4_count_4 : cX4_count.data.toList.drop 92 = dktX4_count_4 := dk_seg dksX4_count_3 24 rfl rfl
theorem dksX4_count_5 : cX4_count.data.toList.drop 116 = dktX4_count_5 := dk_seg dksX4_count_4 24 rfl rfl
theorem dX4_count_0 : decode cX4_count 0 = .ok (.aload_n 0, 1) := dk_42 (dk_at dksX4_count_0 0 rfl rfl)
theorem dX4_count_1 : decode cX4_count 1 = .ok (.iload_n 1, 1) := dk_27 (dk_at dksX4_count_0 1 rfl rfl)
theorem dX4_count_2 : decode cX4_count 2 = .ok (.invokevirtual 255, 3) := dk_182 0 255 (dk_at dksX4_count_0 2 rfl rfl)
theorem dX4_count_5 : decode cX4_count 5 = .ok (.ifCond .eq 23, 3) := dk_153 0 23 (dk_at dksX4_count_0 5 rfl rfl)
theorem dX4_count_8 : decode cX4_count 8 = .ok (.iload_n 2, 1) := dk_28 (dk_at dksX4_count_0 8 rfl rfl)
theorem dX4_count_9 : decode cX4_count 9 = .ok (.iconst 0, 1) := dk_3 (dk_at dksX4_count_0 9 rfl rfl)
theorem dX4_count_10 : decode cX4_count 10 = .ok (.bipush 9, 2) := dk_16 9 (dk_at dksX4_count_0 10 rfl rfl)
theorem dX4_count_12 : decode cX4_count 12 = .ok (.invokestatic 244, 3) := dk_184 0 244 (dk_at dksX4_count_0 12 rfl rfl)
theorem dX4_count_15 : decode cX4_count 15 = .ok (.ifCond .eq 13, 3) := dk_153 0 13 (dk_at dksX4_count_0 15 rfl rfl)
theorem dX4_count_18 : decode cX4_count 18 = .ok (.iload_n 3, 1) := dk_29 (dk_at dksX4_count_0 18 rfl rfl)
theorem dX4_count_19 : decode cX4_count 19 = .ok (.iload_n 2, 1) := dk_28 (dk_at dksX4_count_0 19 rfl rfl)
theorem dX4_count_20 : decode cX4_count 20 = .ok (.bipush 9, 2) := dk_16 9 (dk_at dksX4_count_0 20 rfl rfl)
theorem dX4_count_22 : decode cX4_count 22 = .ok (.invokestatic 244, 3) := dk_184 0 244 (dk_at dksX4_count_1 0 rfl rfl)
theorem dX4_count_25 : decode cX4_count 25 = .ok (.ifCond .ne 5, 3) := dk_154 0 5 (dk_at dksX4_count_1 3 rfl rfl)
theorem dX4_count_28 : decode cX4_count 28 = .ok (.iconst (-1), 1) := dk_2 (dk_at dksX4_count_1 6 rfl rfl)
theorem dX4_count_29 : decode cX4_count 29 = .ok (.ireturn, 1) := dk_172 (dk_at dksX4_count_1 7 rfl rfl)
theorem dX4_count_30 : decode cX4_count 30 = .ok (.aload_n 0, 1) := dk_42 (dk_at dksX4_count_1 8 rfl rfl)
theorem dX4_count_31 : decode cX4_count 31 = .ok (.getfield 44, 3) := dk_180 0 44 (dk_at dksX4_count_1 9 rfl rfl)
theorem dX4_count_34 : decode cX4_count 34 = .ok (.iload_n 1, 1) := dk_27 (dk_at dksX4_count_1 12 rfl rfl)
theorem dX4_count_35 : decode cX4_count 35 = .ok (.iaload, 1) := dk_46 (dk_at dksX4_count_1 13 rfl rfl)
theorem dX4_count_36 : decode cX4_count 36 = .ok (.iload_n 2, 1) := dk_28 (dk_at dksX4_count_1 14 rfl rfl)
theorem dX4_count_37 : decode cX4_count 37 = .ok (.if_icmp .le 12, 3) := dk_164 0 12 (dk_at dksX4_count_1 15 rfl rfl)
theorem dX4_count_40 : decode cX4_count 40 = .ok (.aload_n 0, 1) := dk_42 (dk_at dksX4_count_1 18 rfl rfl)
theorem dX4_count_41 : decode cX4_count 41 = .ok (.getfield 44, 3) := dk_180 0 44 (dk_at dksX4_count_1 19 rfl rfl)
theorem dX4_count_44 : decode cX4_count 44 = .ok (.iload_n 1, 1) := dk_27 (dk_at dksX4_count_1 22 rfl rfl)
theorem dX4_count_45 : decode cX4_count 45 = .ok (.iaload, 1) := dk_46 (dk_at dksX4_count_1 23 rfl rfl)
theorem dX4_count_46 : decode cX4_count 46 = .ok (.goto 4, 3) := dk_167 0 4 (dk_at dksX4_count_2 0 rfl rfl)
theorem dX4_count_49 : decode cX4_count 49 = .ok (.iload_n 2, 1) := dk_28 (dk_at dksX4_count_2 3 rfl rfl)
theorem dX4_count_50 : decode cX4_count 50 = .ok (.istore 4, 2) := dk_54 4 (dk_at dksX4_count_2 4 rfl rfl)
theorem dX4_count_52 : decode cX4_count 52 = .ok (.aload_n 0, 1) := dk_42 (dk_at dksX4_count_2 6 rfl rfl)
theorem dX4_count_53 : decode cX4_count 53 = .ok (.getfield 47, 3) := dk_180 0 47 (dk_at dksX4_count_2 7 rfl rfl)
theorem dX4_count_56 : decode cX4_count 56 = .ok (.iload_n 1, 1) := dk_27 (dk_at dksX4_count_2 10 rfl rfl)
theorem dX4_count_57 : decode cX4_count 57 = .ok (.iaload, 1) := dk_46 (dk_at dksX4_count_2 11 rfl rfl)
theorem dX4_count_58 : decode cX4_count 58 = .ok (.iload_n 3, 1) := dk_29 (dk_at dksX4_count_2 12 rfl rfl)
theorem dX4_count_59 : decode cX4_count 59 = .ok (.if_icmp .ge 12, 3) := dk_162 0 12 (dk_at dksX4_count_2 13 rfl rfl)
theorem dX4_count_62 : decode cX4_count 62 = .ok (.aload_n 0, 1) := dk_42 (dk_at dksX4_count_2 16 rfl rfl)
theorem dX4_count_63 : decode cX4_count 63 = .ok (.getfield 47, 3) := dk_180 0 47 (dk_at dksX4_count_2 17 rfl rfl)
theorem dX4_count_66 : decode cX4_count 66 = .ok (.iload_n 1, 1) := dk_27 (dk_at dksX4_count_2 20 rfl rfl)
theorem dX4_count_67 : decode cX4_count 67 = .ok (.iaload, 1) := dk_46 (dk_at dksX4_count_2 21 rfl rfl)
theorem dX4_count_68 : decode cX4_count 68 = .ok (.goto 4, 3) := dk_167 0 4 (dk_at dksX4_count_3 0 rfl rfl)
theorem dX4_count_71 : decode cX4_count 71 = .ok (.iload_n 3, 1) := dk_29 (dk_at dksX4_count_3 3 rfl rfl)
theorem dX4_count_72 : decode cX4_count 72 = .ok (.istore 5, 2) := dk_54 5 (dk_at dksX4_count_3 4 rfl rfl)
theorem dX4_count_74 : decode cX4_count 74 = .ok (.aload_n 0, 1) := dk_42 (dk_at dksX4_count_3 6 rfl rfl)
theorem dX4_count_75 : decode cX4_count 75 = .ok (.getfield 44, 3) := dk_180 0 44 (dk_at dksX4_count_3 7 rfl rfl)
theorem dX4_count_78 : decode cX4_count 78 = .ok (.iload_n 1, 1) := dk_27 (dk_at dksX4_count_3 10 rfl rfl)
theorem dX4_count_79 : decode cX4_count 79 = .ok (.iload 4, 2) := dk_21 4 (dk_at dksX4_count_3 11 rfl rfl)
theorem dX4_count_81 : decode cX4_count 81 = .ok (.iload 5, 2) := dk_21 5 (dk_at dksX4_count_3 13 rfl rfl)
theorem dX4_count_83 : decode cX4_count 83 = .ok (.if_icmp .le 7, 3) := dk_164 0 7 (dk_at dksX4_count_3 15 rfl rfl)
theorem dX4_count_86 : decode cX4_count 86 = .ok (.iload_n 2, 1) := dk_28 (dk_at dksX4_count_3 18 rfl rfl)
theorem dX4_count_87 : decode cX4_count 87 = .ok (.goto 5, 3) := dk_167 0 5 (dk_at dksX4_count_3 19 rfl rfl)
theorem dX4_count_90 : decode cX4_count 90 = .ok (.iload 4, 2) := dk_21 4 (dk_at dksX4_count_3 22 rfl rfl)
theorem dX4_count_92 : decode cX4_count 92 = .ok (.iastore, 1) := dk_79 (dk_at dksX4_count_4 0 rfl rfl)
theorem dX4_count_93 : decode cX4_count 93 = .ok (.aload_n 0, 1) := dk_42 (dk_at dksX4_count_4 1 rfl rfl)
theorem dX4_count_94 : decode cX4_count 94 = .ok (.getfield 47, 3) := dk_180 0 47 (dk_at dksX4_count_4 2 rfl rfl)
theorem dX4_count_97 : decode cX4_count 97 = .ok (.iload_n 1, 1) := dk_27 (dk_at dksX4_count_4 5 rfl rfl)
theorem dX4_count_98 : decode cX4_count 98 = .ok (.iload 4, 2) := dk_21 4 (dk_at dksX4_count_4 6 rfl rfl)
theorem dX4_count_100 : decode cX4_count 100 = .ok (.iload 5, 2) := dk_21 5 (dk_at dksX4_count_4 8 rfl rfl)
theorem dX4_count_102 : decode cX4_count 102 = .ok (.if_icmp .le 7, 3) := dk_164 0 7 (dk_at dksX4_count_4 10 rfl rfl)
theorem dX4_count_105 : decode cX4_count 105 = .ok (.iload_n 3, 1) := dk_29 (dk_at dksX4_count_4 13 rfl rfl)
theorem dX4_count_106 : decode cX4_count 106 = .ok (.goto 5, 3) := dk_167 0 5 (dk_at dksX4_count_4 14 rfl rfl)
theorem dX4_count_109 : decode cX4_count 109 = .ok (.iload 5, 2) := dk_21 5 (dk_at dksX4_count_4 17 rfl rfl)
theorem dX4_count_111 : decode cX4_count 111 = .ok (.iastore, 1) := dk_79 (dk_at dksX4_count_4 19 rfl rfl)
theorem dX4_count_112 : decode cX4_count 112 = .ok (.iload 4, 2) := dk_21 4 (dk_at dksX4_count_4 20 rfl rfl)
theorem dX4_count_114 : decode cX4_count 114 = .ok (.iload 5, 2) := dk_21 5 (dk_at dksX4_count_4 22 rfl rfl)
theorem dX4_count_116 : decode cX4_count 116 = .ok (.if_icmp .le 7, 3) := dk_164 0 7 (dk_at dksX4_count_5 0 rfl rfl)
theorem dX4_count_119 : decode cX4_count 119 = .ok (.iconst 0, 1) := dk_3 (dk_at dksX4_count_5 3 rfl rfl)
theorem dX4_count_120 : decode cX4_count 120 = .ok (.goto 4, 3) := dk_167 0 4 (dk_at dksX4_count_5 4 rfl rfl)
theorem dX4_count_123 : decode cX4_count 123 = .ok (.iconst 1, 1) := dk_4 (dk_at dksX4_count_5 7 rfl rfl)
theorem dX4_count_124 : decode cX4_count 124 = .ok (.ireturn, 1) := dk_172 (dk_at dksX4_count_5 8 rfl rfl)
abbrev cX4_guess : ByteArray := prog_23_method_91_code
def yX4_guess : MethodName := ⟨RX4, "guess", "(II)I"⟩
def dkwX4_guess_1 : List UInt8 := [167, 0, 18, 28, 4, 160, 0, 12, 42, 180, 0, 47, 27, 46, 167, 0, 4, 2, 172]
abbrev dktX4_guess_1 : List UInt8 := dkwX4_guess_1 ++ []
def dkwX4_guess_0 : List UInt8 := [42, 27, 182, 0, 255, 154, 0, 7, 2, 167, 0, 31, 28, 154, 0, 12, 42, 180, 0, 44, 27, 46]
abbrev dktX4_guess_0 : List UInt8 := dkwX4_guess_0 ++ dktX4_guess_1
theorem dksX4_guess_0 : cX4_guess.data.toList.drop 0 = dktX4_guess_0 := by decide +kernel
theorem dksX4_guess_1 : cX4_guess.data.toList.drop 22 = dktX4_guess_1 := dk_seg dksX4_guess_0 22 rfl rfl
theorem dX4_guess_0 : decode cX4_guess 0 = .ok (.aload_n 0, 1) := dk_42 (dk_at dksX4_guess_0 0 rfl rfl)
theorem dX4_guess_1 : decode cX4_guess 1 = .ok (.iload_n 1, 1) := dk_27 (dk_at dksX4_guess_0 1 rfl rfl)
theorem dX4_guess_2 : decode cX4_guess 2 = .ok (.invokevirtual 255, 3) := dk_182 0 255 (dk_at dksX4_guess_0 2 rfl rfl)
theorem dX4_guess_5 : decode cX4_guess 5 = .ok (.ifCond .ne 7, 3) := dk_154 0 7 (dk_at dksX4_guess_0 5 rfl rfl)
theorem dX4_guess_8 : decode cX4_guess 8 = .ok (.iconst (-1), 1) := dk_2 (dk_at dksX4_guess_0 8 rfl rfl)
theorem dX4_guess_9 : decode cX4_guess 9 = .ok (.goto 31, 3) := dk_167 0 31 (dk_at dksX4_guess_0 9 rfl rfl)
theorem dX4_guess_12 : decode cX4_guess 12 = .ok (.iload_n 2, 1) := dk_28 (dk_at dksX4_guess_0 12 rfl rfl)
theorem dX4_guess_13 : decode cX4_guess 13 = .ok (.ifCond .ne 12, 3) := dk_154 0 12 (dk_at dksX4_guess_0 13 rfl rfl)
theorem dX4_guess_16 : decode cX4_guess 16 = .ok (.aload_n 0, 1) := dk_42 (dk_at dksX4_guess_0 16 rfl rfl)
theorem dX4_guess_17 : decode cX4_guess 17 = .ok (.getfield 44, 3) := dk_180 0 44 (dk_at dksX4_guess_0 17 rfl rfl)
theorem dX4_guess_20 : decode cX4_guess 20 = .ok (.iload_n 1, 1) := dk_27 (dk_at dksX4_guess_0 20 rfl rfl)
theorem dX4_guess_21 : decode cX4_guess 21 = .ok (.iaload, 1) := dk_46 (dk_at dksX4_guess_0 21 rfl rfl)
theorem dX4_guess_22 : decode cX4_guess 22 = .ok (.goto 18, 3) := dk_167 0 18 (dk_at dksX4_guess_1 0 rfl rfl)
theorem dX4_guess_25 : decode cX4_guess 25 = .ok (.iload_n 2, 1) := dk_28 (dk_at dksX4_guess_1 3 rfl rfl)
theorem dX4_guess_26 : decode cX4_guess 26 = .ok (.iconst 1, 1) := dk_4 (dk_at dksX4_guess_1 4 rfl rfl)
theorem dX4_guess_27 : decode cX4_guess 27 = .ok (.if_icmp .ne 12, 3) := dk_160 0 12 (dk_at dksX4_guess_1 5 rfl rfl)
theorem dX4_guess_30 : decode cX4_guess 30 = .ok (.aload_n 0, 1) := dk_42 (dk_at dksX4_guess_1 8 rfl rfl)
theorem dX4_guess_31 : decode cX4_guess 31 = .ok (.getfield 47, 3) := dk_180 0 47 (dk_at dksX4_guess_1 9 rfl rfl)
theorem dX4_guess_34 : decode cX4_guess 34 = .ok (.iload_n 1, 1) := dk_27 (dk_at dksX4_guess_1 12 rfl rfl)
theorem dX4_guess_35 : decode cX4_guess 35 = .ok (.iaload, 1) := dk_46 (dk_at dksX4_guess_1 13 rfl rfl)
theorem dX4_guess_36 : decode cX4_guess 36 = .ok (.goto 4, 3) := dk_167 0 4 (dk_at dksX4_guess_1 14 rfl rfl)
theorem dX4_guess_39 : decode cX4_guess 39 = .ok (.iconst (-1), 1) := dk_2 (dk_at dksX4_guess_1 17 rfl rfl)
theorem dX4_guess_40 : decode cX4_guess 40 = .ok (.ireturn, 1) := dk_172 (dk_at dksX4_guess_1 18 rfl rfl)
abbrev cX4_foreseen : ByteArray := prog_23_method_94_code
def yX4_foreseen : MethodName := ⟨RX4, "foreseen", "(III)I"⟩
def dkwX4_foreseen_5 : List UInt8 := [29, 154, 0, 8, 21, 6, 167, 0, 5, 21, 7, 172]
abbrev dktX4_foreseen_5 : List UInt8 := dkwX4_foreseen_5 ++ []
def dkwX4_foreseen_4 : List UInt8 := [16, 9, 182, 2, 41, 54, 7, 42, 4, 182, 2, 34, 42, 21, 4, 181, 0, 234, 42, 21, 5, 181, 1, 29]
abbrev dktX4_foreseen_4 : List UInt8 := dkwX4_foreseen_4 ++ dktX4_foreseen_5
def dkwX4_foreseen_3 : List UInt8 := [21, 7, 28, 162, 0, 19, 21, 6, 42, 27, 182, 2, 38, 96, 54, 6, 132, 7, 1, 167, 255, 237, 42]
abbrev dktX4_foreseen_3 : List UInt8 := dkwX4_foreseen_3 ++ dktX4_foreseen_4
def dkwX4_foreseen_2 : List UInt8 := [54, 4, 42, 180, 1, 29, 54, 5, 42, 3, 182, 2, 34, 42, 3, 181, 1, 29, 3, 54, 6, 3, 54, 7]
abbrev dktX4_foreseen_2 : List UInt8 := dkwX4_foreseen_2 ++ dktX4_foreseen_3
def dkwX4_foreseen_1 : List UInt8 := [184, 0, 244, 153, 0, 14, 42, 182, 0, 237, 28, 96, 16, 40, 164, 0, 5, 2, 172, 42, 180, 0, 234]
abbrev dktX4_foreseen_1 : List UInt8 := dkwX4_foreseen_1 ++ dktX4_foreseen_2
def dkwX4_foreseen_0 : List UInt8 := [27, 3, 4, 184, 0, 244, 153, 0, 33, 28, 4, 16, 8, 184, 0, 244, 153, 0, 23, 29, 3, 4]
abbrev dktX4_foreseen_0 : List UInt8 := dkwX4_foreseen_0 ++ dktX4_foreseen_1
theorem dksX4_foreseen_0 : cX4_foreseen.data.toList.drop 0 = dktX4_foreseen_0 := by decide +kernel
theorem dksX4_foreseen_1 : cX4_foreseen.data.toList.drop 22 = dktX4_foreseen_1 := dk_seg dksX4_foreseen_0 22 rfl rfl
theorem dksX4_foreseen_2 : cX4_foreseen.data.toList.drop 45 = dktX4_foreseen_2 := dk_seg dksX4_foreseen_1 23 rfl rfl
theorem dksX4_foreseen_3 : cX4_foreseen.data.toList.drop 69 = dktX4_foreseen_3 := dk_seg dksX4_foreseen_2 24 rfl rfl
theorem dksX4_foreseen_4 : cX4_foreseen.data.toList.drop 92 = dktX4_foreseen_4 := dk_seg dksX4_foreseen_3 23 rfl rfl
theorem dksX4_foreseen_5 : cX4_foreseen.data.toList.drop 116 = dktX4_foreseen_5 := dk_seg dksX4_foreseen_4 24 rfl rfl
theorem dX4_foreseen_0 : decode cX4_foreseen 0 = .ok (.iload_n 1, 1) := dk_27 (dk_at dksX4_foreseen_0 0 rfl rfl)
theorem dX4_foreseen_1 : decode cX4_foreseen 1 = .ok (.iconst 0, 1) := dk_3 (dk_at dksX4_foreseen_0 1 rfl rfl)
theorem dX4_foreseen_2 : decode cX4_foreseen 2 = .ok (.iconst 1, 1) := dk_4 (dk_at dksX4_foreseen_0 2 rfl rfl)
theorem dX4_foreseen_3 : decode cX4_foreseen 3 = .ok (.invokestatic 244, 3) := dk_184 0 244 (dk_at dksX4_foreseen_0 3 rfl rfl)
theorem dX4_foreseen_6 : decode cX4_foreseen 6 = .ok (.ifCond .eq 33, 3) := dk_153 0 33 (dk_at dksX4_foreseen_0 6 rfl rfl)
theorem dX4_foreseen_9 : decode cX4_foreseen 9 = .ok (.iload_n 2, 1) := dk_28 (dk_at dksX4_foreseen_0 9 rfl rfl)
theorem dX4_foreseen_10 : decode cX4_foreseen 10 = .ok (.iconst 1, 1) := dk_4 (dk_at dksX4_foreseen_0 10 rfl rfl)
theorem dX4_foreseen_11 : decode cX4_foreseen 11 = .ok (.bipush 8, 2) := dk_16 8 (dk_at dksX4_foreseen_0 11 rfl rfl)
theorem dX4_foreseen_13 : decode cX4_foreseen 13 = .ok (.invokestatic 244, 3) := dk_184 0 244 (dk_at dksX4_foreseen_0 13 rfl rfl)
theorem dX4_foreseen_16 : decode cX4_foreseen 16 = .ok (.ifCond .eq 23, 3) := dk_153 0 23 (dk_at dksX4_foreseen_0 16 rfl rfl)
theorem dX4_foreseen_19 : decode cX4_foreseen 19 = .ok (.iload_n 3, 1) := dk_29 (dk_at dksX4_foreseen_0 19 rfl rfl)
theorem dX4_foreseen_20 : decode cX4_foreseen 20 = .ok (.iconst 0, 1) := dk_3 (dk_at dksX4_foreseen_0 20 rfl rfl)
theorem dX4_foreseen_21 : decode cX4_foreseen 21 = .ok (.iconst 1, 1) := dk_4 (dk_at dksX4_foreseen_0 21 rfl rfl)
theorem dX4_foreseen_22 : decode cX4_foreseen 22 = .ok (.invokestatic 244, 3) := dk_184 0 244 (dk_at dksX4_foreseen_1 0 rfl rfl)
theorem dX4_foreseen_25 : decode cX4_foreseen 25 = .ok (.ifCond .eq 14, 3) := dk_153 0 14 (dk_at dksX4_foreseen_1 3 rfl rfl)
theorem dX4_foreseen_28 : decode cX4_foreseen 28 = .ok (.aload_n 0, 1) := dk_42 (dk_at dksX4_foreseen_1 6 rfl rfl)
theorem dX4_foreseen_29 : decode cX4_foreseen 29 = .ok (.invokevirtual 237, 3) := dk_182 0 237 (dk_at dksX4_foreseen_1 7 rfl rfl)
theorem dX4_foreseen_32 : decode cX4_foreseen 32 = .ok (.iload_n 2, 1) := dk_28 (dk_at dksX4_foreseen_1 10 rfl rfl)
theorem dX4_foreseen_33 : decode cX4_foreseen 33 = .ok (.iadd, 1) := dk_96 (dk_at dksX4_foreseen_1 11 rfl rfl)
theorem dX4_foreseen_34 : decode cX4_foreseen 34 = .ok (.bipush 40, 2) := dk_16 40 (dk_at dksX4_foreseen_1 12 rfl rfl)
theorem dX4_foreseen_36 : decode cX4_foreseen 36 = .ok (.if_icmp .le 5, 3) := dk_164 0 5 (dk_at dksX4_foreseen_1 14 rfl rfl)
theorem dX4_foreseen_39 : decode cX4_foreseen 39 = .ok (.iconst (-1), 1) := dk_2 (dk_at dksX4_foreseen_1 17 rfl rfl)
theorem dX4_foreseen_40 : decode cX4_foreseen 40 = .ok (.ireturn, 1) := dk_172 (dk_at dksX4_foreseen_1 18 rfl rfl)
theorem dX4_foreseen_41 : decode cX4_foreseen 41 = .ok (.aload_n 0, 1) := dk_42 (dk_at dksX4_foreseen_1 19 rfl rfl)
theorem dX4_foreseen_42 : decode cX4_foreseen 42 = .ok (.getfield 234, 3) := dk_180 0 234 (dk_at dksX4_foreseen_1 20 rfl rfl)
theorem dX4_foreseen_45 : decode cX4_foreseen 45 = .ok (.istore 4, 2) := dk_54 4 (dk_at dksX4_foreseen_2 0 rfl rfl)
theorem dX4_foreseen_47 : decode cX4_foreseen 47 = .ok (.aload_n 0, 1) := dk_42 (dk_at dksX4_foreseen_2 2 rfl rfl)
theorem dX4_foreseen_48 : decode cX4_foreseen 48 = .ok (.getfield 285, 3) := dk_180 1 29 (dk_at dksX4_foreseen_2 3 rfl rfl)
theorem dX4_foreseen_51 : decode cX4_foreseen 51 = .ok (.istore 5, 2) := dk_54 5 (dk_at dksX4_foreseen_2 6 rfl rfl)
theorem dX4_foreseen_53 : decode cX4_foreseen 53 = .ok (.aload_n 0, 1) := dk_42 (dk_at dksX4_foreseen_2 8 rfl rfl)
theorem dX4_foreseen_54 : decode cX4_foreseen 54 = .ok (.iconst 0, 1) := dk_3 (dk_at dksX4_foreseen_2 9 rfl rfl)
theorem dX4_foreseen_55 : decode cX4_foreseen 55 = .ok (.invokevirtual 546, 3) := dk_182 2 34 (dk_at dksX4_foreseen_2 10 rfl rfl)
theorem dX4_foreseen_58 : decode cX4_foreseen 58 = .ok (.aload_n 0, 1) := dk_42 (dk_at dksX4_foreseen_2 13 rfl rfl)
theorem dX4_foreseen_59 : decode cX4_foreseen 59 = .ok (.iconst 0, 1) := dk_3 (dk_at dksX4_foreseen_2 14 rfl rfl)
theorem dX4_foreseen_60 : decode cX4_foreseen 60 = .ok (.putfield 285, 3) := dk_181 1 29 (dk_at dksX4_foreseen_2 15 rfl rfl)
theorem dX4_foreseen_63 : decode cX4_foreseen 63 = .ok (.iconst 0, 1) := dk_3 (dk_at dksX4_foreseen_2 18 rfl rfl)
theorem dX4_foreseen_64 : decode cX4_foreseen 64 = .ok (.istore 6, 2) := dk_54 6 (dk_at dksX4_foreseen_2 19 rfl rfl)
theorem dX4_foreseen_66 : decode cX4_foreseen 66 = .ok (.iconst 0, 1) := dk_3 (dk_at dksX4_foreseen_2 21 rfl rfl)
theorem dX4_foreseen_67 : decode cX4_foreseen 67 = .ok (.istore 7, 2) := dk_54 7 (dk_at dksX4_foreseen_2 22 rfl rfl)
theorem dX4_foreseen_69 : decode cX4_foreseen 69 = .ok (.iload 7, 2) := dk_21 7 (dk_at dksX4_foreseen_3 0 rfl rfl)
theorem dX4_foreseen_71 : decode cX4_foreseen 71 = .ok (.iload_n 2, 1) := dk_28 (dk_at dksX4_foreseen_3 2 rfl rfl)
theorem dX4_foreseen_72 : decode cX4_foreseen 72 = .ok (.if_icmp .ge 19, 3) := dk_162 0 19 (dk_at dksX4_foreseen_3 3 rfl rfl)
theorem dX4_foreseen_75 : decode cX4_foreseen 75 = .ok (.iload 6, 2) := dk_21 6 (dk_at dksX4_foreseen_3 6 rfl rfl)
theorem dX4_foreseen_77 : decode cX4_foreseen 77 = .ok (.aload_n 0, 1) := dk_42 (dk_at dksX4_foreseen_3 8 rfl rfl)
theorem dX4_foreseen_78 : decode cX4_foreseen 78 = .ok (.iload_n 1, 1) := dk_27 (dk_at dksX4_foreseen_3 9 rfl rfl)
theorem dX4_foreseen_79 : decode cX4_foreseen 79 = .ok (.invokevirtual 550, 3) := dk_182 2 38 (dk_at dksX4_foreseen_3 10 rfl rfl)
theorem dX4_foreseen_82 : decode cX4_foreseen 82 = .ok (.iadd, 1) := dk_96 (dk_at dksX4_foreseen_3 13 rfl rfl)
theorem dX4_foreseen_83 : decode cX4_foreseen 83 = .ok (.istore 6, 2) := dk_54 6 (dk_at dksX4_foreseen_3 14 rfl rfl)
theorem dX4_foreseen_85 : decode cX4_foreseen 85 = .ok (.iinc 7 1, 3) := dk_132 7 1 (dk_at dksX4_foreseen_3 16 rfl rfl)
theorem dX4_foreseen_88 : decode cX4_foreseen 88 = .ok (.goto (-19), 3) := dk_167 255 237 (dk_at dksX4_foreseen_3 19 rfl rfl)
theorem dX4_foreseen_91 : decode cX4_foreseen 91 = .ok (.aload_n 0, 1) := dk_42 (dk_at dksX4_foreseen_3 22 rfl rfl)
theorem dX4_foreseen_92 : decode cX4_foreseen 92 = .ok (.bipush 9, 2) := dk_16 9 (dk_at dksX4_foreseen_4 0 rfl rfl)
theorem dX4_foreseen_94 : decode cX4_foreseen 94 = .ok (.invokevirtual 553, 3) := dk_182 2 41 (dk_at dksX4_foreseen_4 2 rfl rfl)
theorem dX4_foreseen_97 : decode cX4_foreseen 97 = .ok (.istore 7, 2) := dk_54 7 (dk_at dksX4_foreseen_4 5 rfl rfl)
theorem dX4_foreseen_99 : decode cX4_foreseen 99 = .ok (.aload_n 0, 1) := dk_42 (dk_at dksX4_foreseen_4 7 rfl rfl)
theorem dX4_foreseen_100 : decode cX4_foreseen 100 = .ok (.iconst 1, 1) := dk_4 (dk_at dksX4_foreseen_4 8 rfl rfl)
theorem dX4_foreseen_101 : decode cX4_foreseen 101 = .ok (.invokevirtual 546, 3) := dk_182 2 34 (dk_at dksX4_foreseen_4 9 rfl rfl)
theorem dX4_foreseen_104 : decode cX4_foreseen 104 = .ok (.aload_n 0, 1) := dk_42 (dk_at dksX4_foreseen_4 12 rfl rfl)
theorem dX4_foreseen_105 : decode cX4_foreseen 105 = .ok (.iload 4, 2) := dk_21 4 (dk_at dksX4_foreseen_4 13 rfl rfl)
theorem dX4_foreseen_107 : decode cX4_foreseen 107 = .ok (.putfield 234, 3) := dk_181 0 234 (dk_at dksX4_foreseen_4 15 rfl rfl)
theorem dX4_foreseen_110 : decode cX4_foreseen 110 = .ok (.aload_n 0, 1) := dk_42 (dk_at dksX4_foreseen_4 18 rfl rfl)
theorem dX4_foreseen_111 : decode cX4_foreseen 111 = .ok (.iload 5, 2) := dk_21 5 (dk_at dksX4_foreseen_4 19 rfl rfl)
theorem dX4_foreseen_113 : decode cX4_foreseen 113 = .ok (.putfield 285, 3) := dk_181 1 29 (dk_at dksX4_foreseen_4 21 rfl rfl)
theorem dX4_foreseen_116 : decode cX4_foreseen 116 = .ok (.iload_n 3, 1) := dk_29 (dk_at dksX4_foreseen_5 0 rfl rfl)
theorem dX4_foreseen_117 : decode cX4_foreseen 117 = .ok (.ifCond .ne 8, 3) := dk_154 0 8 (dk_at dksX4_foreseen_5 1 rfl rfl)
theorem dX4_foreseen_120 : decode cX4_foreseen 120 = .ok (.iload 6, 2) := dk_21 6 (dk_at dksX4_foreseen_5 4 rfl rfl)
theorem dX4_foreseen_122 : decode cX4_foreseen 122 = .ok (.goto 5, 3) := dk_167 0 5 (dk_at dksX4_foreseen_5 6 rfl rfl)
theorem dX4_foreseen_125 : decode cX4_foreseen 125 = .ok (.iload 7, 2) := dk_21 7 (dk_at dksX4_foreseen_5 9 rfl rfl)
theorem dX4_foreseen_127 : decode cX4_foreseen 127 = .ok (.ireturn, 1) := dk_172 (dk_at dksX4_foreseen_5 11 rfl rfl)
abbrev cX4_keeps : ByteArray := prog_23_method_92_code
def yX4_keeps : MethodName := ⟨RX4, "keeps", "(Z)V"⟩
def dkwX4_keeps_11 : List UInt8 := [28, 51, 84, 132, 2, 1, 167, 254, 248, 177]
abbrev dktX4_keeps_11 : List UInt8 := dkwX4_keeps_11 ++ []
def dkwX4_keeps_10 : List UInt8 := [28, 46, 79, 42, 180, 0, 228, 28, 42, 180, 0, 50, 28, 51, 84, 42, 180, 0, 231, 28, 42, 180, 0, 54]
abbrev dktX4_keeps_10 : List UInt8 := dkwX4_keeps_10 ++ dktX4_keeps_11
def dkwX4_keeps_9 : List UInt8 := [104, 7, 96, 42, 180, 0, 44, 28, 46, 79, 42, 180, 0, 225, 16, 8, 28, 104, 8, 96, 42, 180, 0, 47]
abbrev dktX4_keeps_9 : List UInt8 := dkwX4_keeps_9 ++ dktX4_keeps_10
def dkwX4_keeps_8 : List UInt8 := [42, 180, 0, 225, 16, 8, 28, 104, 6, 96, 42, 180, 0, 38, 28, 46, 79, 42, 180, 0, 225, 16, 8, 28]
abbrev dktX4_keeps_8 : List UInt8 := dkwX4_keeps_8 ++ dktX4_keeps_9
def dkwX4_keeps_7 : List UInt8 := [42, 180, 0, 32, 28, 46, 79, 42, 180, 0, 225, 16, 8, 28, 104, 5, 96, 42, 180, 0, 35, 28, 46, 79]
abbrev dktX4_keeps_7 : List UInt8 := dkwX4_keeps_7 ++ dktX4_keeps_8
def dkwX4_keeps_6 : List UInt8 := [180, 0, 225, 16, 8, 28, 104, 42, 180, 0, 29, 28, 46, 79, 42, 180, 0, 225, 16, 8, 28, 104, 4, 96]
abbrev dktX4_keeps_6 : List UInt8 := dkwX4_keeps_6 ++ dktX4_keeps_7
def dkwX4_keeps_5 : List UInt8 := [180, 0, 228, 28, 51, 84, 42, 180, 0, 54, 28, 42, 180, 0, 231, 28, 51, 84, 167, 0, 127, 42]
abbrev dktX4_keeps_5 : List UInt8 := dkwX4_keeps_5 ++ dktX4_keeps_6
def dkwX4_keeps_4 : List UInt8 := [180, 0, 47, 28, 42, 180, 0, 225, 16, 8, 28, 104, 8, 96, 46, 79, 42, 180, 0, 50, 28, 42]
abbrev dktX4_keeps_4 : List UInt8 := dkwX4_keeps_4 ++ dktX4_keeps_5
def dkwX4_keeps_3 : List UInt8 := [28, 104, 6, 96, 46, 79, 42, 180, 0, 44, 28, 42, 180, 0, 225, 16, 8, 28, 104, 7, 96, 46, 79, 42]
abbrev dktX4_keeps_3 : List UInt8 := dkwX4_keeps_3 ++ dktX4_keeps_4
def dkwX4_keeps_2 : List UInt8 := [28, 42, 180, 0, 225, 16, 8, 28, 104, 5, 96, 46, 79, 42, 180, 0, 38, 28, 42, 180, 0, 225, 16, 8]
abbrev dktX4_keeps_2 : List UInt8 := dkwX4_keeps_2 ++ dktX4_keeps_3
def dkwX4_keeps_1 : List UInt8 := [104, 46, 79, 42, 180, 0, 32, 28, 42, 180, 0, 225, 16, 8, 28, 104, 4, 96, 46, 79, 42, 180, 0, 35]
abbrev dktX4_keeps_1 : List UInt8 := dkwX4_keeps_1 ++ dktX4_keeps_2
def dkwX4_keeps_0 : List UInt8 := [3, 61, 28, 16, 12, 162, 1, 8, 27, 153, 0, 130, 42, 180, 0, 29, 28, 42, 180, 0, 225, 16, 8, 28]
abbrev dktX4_keeps_0 : List UInt8 := dkwX4_keeps_0 ++ dktX4_keeps_1
theorem dksX4_keeps_0 : cX4_keeps.data.toList.drop 0 = dktX4_keeps_0 := by decide +kernel
theorem dksX4_keeps_1 : cX4_keeps.data.toList.drop 24 = dktX4_keeps_1 := dk_seg dksX4_keeps_0 24 rfl rfl
theorem dksX4_keeps_2 : cX4_keeps.data.toList.drop 48 = dktX4_keeps_2 := dk_seg dksX4_keeps_1 24 rfl rfl
theorem dksX4_keeps_3 : cX4_keeps.data.toList.drop 72 = dktX4_keeps_3 := dk_seg dksX4_keeps_2 24 rfl rfl
theorem dksX4_keeps_4 : cX4_keeps.data.toList.drop 96 = dktX4_keeps_4 := dk_seg dksX4_keeps_3 24 rfl rfl
theorem dksX4_keeps_5 : cX4_keeps.data.toList.drop 118 = dktX4_keeps_5 := dk_seg dksX4_keeps_4 22 rfl rfl
theorem dksX4_keeps_6 : cX4_keeps.data.toList.drop 140 = dktX4_keeps_6 := dk_seg dksX4_keeps_5 22 rfl rfl
theorem dksX4_keeps_7 : cX4_keeps.data.toList.drop 164 = dktX4_keeps_7 := dk_seg dksX4_keeps_6 24 rfl rfl
theorem dksX4_keeps_8 : cX4_keeps.data.toList.drop 188 = dktX4_keeps_8 := dk_seg dksX4_keeps_7 24 rfl rfl
theorem dksX4_keeps_9 : cX4_keeps.data.toList.drop 212 = dktX4_keeps_9 := dk_seg dksX4_keeps_8 24 rfl rfl
theorem dksX4_keeps_10 : cX4_keeps.data.toList.drop 236 = dktX4_keeps_10 := dk_seg dksX4_keeps_9 24 rfl rfl
theorem dksX4_keeps_11 : cX4_keeps.data.toList.drop 260 = dktX4_keeps_11 := dk_seg dksX4_keeps_10 24 rfl rfl
theorem dX4_keeps_0 : decode cX4_keeps 0 = .ok (.iconst 0, 1) := dk_3 (dk_at dksX4_keeps_0 0 rfl rfl)
theorem dX4_keeps_1 : decode cX4_keeps 1 = .ok (.istore_n 2, 1) := dk_61 (dk_at dksX4_keeps_0 1 rfl rfl)
theorem dX4_keeps_2 : decode cX4_keeps 2 = .ok (.iload_n 2, 1) := dk_28 (dk_at dksX4_keeps_0 2 rfl rfl)
theorem dX4_keeps_3 : decode cX4_keeps 3 = .ok (.bipush 12, 2) := dk_16 12 (dk_at dksX4_keeps_0 3 rfl rfl)
theorem dX4_keeps_5 : decode cX4_keeps 5 = .ok (.if_icmp .ge 264, 3) := dk_162 1 8 (dk_at dksX4_keeps_0 5 rfl rfl)
theorem dX4_keeps_8 : decode cX4_keeps 8 = .ok (.iload_n 1, 1) := dk_27 (dk_at dksX4_keeps_0 8 rfl rfl)
theorem dX4_keeps_9 : decode cX4_keeps 9 = .ok (.ifCond .eq 130, 3) := dk_153 0 130 (dk_at dksX4_keeps_0 9 rfl rfl)
theorem dX4_keeps_12 : decode cX4_keeps 12 = .ok (.aload_n 0, 1) := dk_42 (dk_at dksX4_keeps_0 12 rfl rfl)
theorem dX4_keeps_13 : decode cX4_keeps 13 = .ok (.getfield 29, 3) := dk_180 0 29 (dk_at dksX4_keeps_0 13 rfl rfl)
theorem dX4_keeps_16 : decode cX4_keeps 16 = .ok (.iload_n 2, 1) := dk_28 (dk_at dksX4_keeps_0 16 rfl rfl)
theorem dX4_keeps_17 : decode cX4_keeps 17 = .ok (.aload_n 0, 1) := dk_42 (dk_at dksX4_keeps_0 17 rfl rfl)
theorem dX4_keeps_18 : decode cX4_keeps 18 = .ok (.getfield 225, 3) := dk_180 0 225 (dk_at dksX4_keeps_0 18 rfl rfl)
theorem dX4_keeps_21 : decode cX4_keeps 21 = .ok (.bipush 8, 2) := dk_16 8 (dk_at dksX4_keeps_0 21 rfl rfl)
theorem dX4_keeps_23 : decode cX4_keeps 23 = .ok (.iload_n 2, 1) := dk_28 (dk_at dksX4_keeps_0 23 rfl rfl)
theorem dX4_keeps_24 : decode cX4_keeps 24 = .ok (.imul, 1) := dk_104 (dk_at dksX4_keeps_1 0 rfl rfl)
theorem dX4_keeps_25 : decode cX4_keeps 25 = .ok (.iaload, 1) := dk_46 (dk_at dksX4_keeps_1 1 rfl rfl)
theorem dX4_keeps_26 : decode cX4_keeps 26 = .ok (.iastore, 1) := dk_79 (dk_at dksX4_keeps_1 2 rfl rfl)
theorem dX4_keeps_27 : decode cX4_keeps 27 = .ok (.aload_n 0, 1) := dk_42 (dk_at dksX4_keeps_1 3 rfl rfl)
theorem dX4_keeps_28 : decode cX4_keeps 28 = .ok (.getfield 32, 3) := dk_180 0 32 (dk_at dksX4_keeps_1 4 rfl rfl)
theorem dX4_keeps_31 : decode cX4_keeps 31 = .ok (.iload_n 2, 1) := dk_28 (dk_at dksX4_keeps_1 7 rfl rfl)
theorem dX4_keeps_32 : decode cX4_keeps 32 = .ok (.aload_n 0, 1) := dk_42 (dk_at dksX4_keeps_1 8 rfl rfl)
theorem dX4_keeps_33 : decode cX4_keeps 33 = .ok (.getfield 225, 3) := dk_180 0 225 (dk_at dksX4_keeps_1 9 rfl rfl)
theorem dX4_keeps_36 : decode cX4_keeps 36 = .ok (.bipush 8, 2) := dk_16 8 (dk_at dksX4_keeps_1 12 rfl rfl)
theorem dX4_keeps_38 : decode cX4_keeps 38 = .ok (.iload_n 2, 1) := dk_28 (dk_at dksX4_keeps_1 14 rfl rfl)
theorem dX4_keeps_39 : decode cX4_keeps 39 = .ok (.imul, 1) := dk_104 (dk_at dksX4_keeps_1 15 rfl rfl)
theorem dX4_keeps_40 : decode cX4_keeps 40 = .ok (.iconst 1, 1) := dk_4 (dk_at dksX4_keeps_1 16 rfl rfl)
theorem dX4_keeps_41 : decode cX4_keeps 41 = .ok (.iadd, 1) := dk_96 (dk_at dksX4_keeps_1 17 rfl rfl)
theorem dX4_keeps_42 : decode cX4_keeps 42 = .ok (.iaload, 1) := dk_46 (dk_at dksX4_keeps_1 18 rfl rfl)
theorem dX4_keeps_43 : decode cX4_keeps 43 = .ok (.iastore, 1) := dk_79 (dk_at dksX4_keeps_1 19 rfl rfl)
theorem dX4_keeps_44 : decode cX4_keeps 44 = .ok (.aload_n 0, 1) := dk_42 (dk_at dksX4_keeps_1 20 rfl rfl)
theorem dX4_keeps_45 : decode cX4_keeps 45 = .ok (.getfield 35, 3) := dk_180 0 35 (dk_at dksX4_keeps_1 21 rfl rfl)
theorem dX4_keeps_48 : decode cX4_keeps 48 = .ok (.iload_n 2, 1) := dk_28 (dk_at dksX4_keeps_2 0 rfl rfl)
theorem dX4_keeps_49 : decode cX4_keeps 49 = .ok (.aload_n 0, 1) := dk_42 (dk_at dksX4_keeps_2 1 rfl rfl)
theorem dX4_keeps_50 : decode cX4_keeps 50 = .ok (.getfield 225, 3) := dk_180 0 225 (dk_at dksX4_keeps_2 2 rfl rfl)
theorem dX4_keeps_53 : decode cX4_keeps 53 = .ok (.bipush 8, 2) := dk_16 8 (dk_at dksX4_keeps_2 5 rfl rfl)
theorem dX4_keeps_55 : decode cX4_keeps 55 = .ok (.iload_n 2, 1) := dk_28 (dk_at dksX4_keeps_2 7 rfl rfl)
theorem dX4_keeps_56 : decode cX4_keeps 56 = .ok (.imul, 1) := dk_104 (dk_at dksX4_keeps_2 8 rfl rfl)
theorem dX4_keeps_57 : decode cX4_keeps 57 = .ok (.iconst 2, 1) := dk_5 (dk_at dksX4_keeps_2 9 rfl rfl)
theorem dX4_keeps_58 : decode cX4_keeps 58 = .ok (.iadd, 1) := dk_96 (dk_at dksX4_keeps_2 10 rfl rfl)
theorem dX4_keeps_59 : decode cX4_keeps 59 = .ok (.iaload, 1) := dk_46 (dk_at dksX4_keeps_2 11 rfl rfl)
theorem dX4_keeps_60 : decode cX4_keeps 60 = .ok (.iastore, 1) := dk_79 (dk_at dksX4_keeps_2 12 rfl rfl)
theorem dX4_keeps_61 : decode cX4_keeps 61 = .ok (.aload_n 0, 1) := dk_42 (dk_at dksX4_keeps_2 13 rfl rfl)
theorem dX4_keeps_62 : decode cX4_keeps 62 = .ok (.getfield 38, 3) := dk_180 0 38 (dk_at dksX4_keeps_2 14 rfl rfl)
theorem dX4_keeps_65 : decode cX4_keeps 65 = .ok (.iload_n 2, 1) := dk_28 (dk_at dksX4_keeps_2 17 rfl rfl)
theorem dX4_keeps_66 : decode cX4_keeps 66 = .ok (.aload_n 0, 1) := dk_42 (dk_at dksX4_keeps_2 18 rfl rfl)
theorem dX4_keeps_67 : decode cX4_keeps 67 = .ok (.getfield 225, 3) := dk_180 0 225 (dk_at dksX4_keeps_2 19 rfl rfl)
theorem dX4_keeps_70 : decode cX4_keeps 70 = .ok (.bipush 8, 2) := dk_16 8 (dk_at dksX4_keeps_2 22 rfl rfl)
theorem dX4_keeps_72 : decode cX4_keeps 72 = .ok (.iload_n 2, 1) := dk_28 (dk_at dksX4_keeps_3 0 rfl rfl)
theorem dX4_keeps_73 : decode cX4_keeps 73 = .ok (.imul, 1) := dk_104 (dk_at dksX4_keeps_3 1 rfl rfl)
theorem dX4_keeps_74 : decode cX4_keeps 74 = .ok (.iconst 3, 1) := dk_6 (dk_at dksX4_keeps_3 2 rfl rfl)
theorem dX4_keeps_75 : decode cX4_keeps 75 = .ok (.iadd, 1) := dk_96 (dk_at dksX4_keeps_3 3 rfl rfl)
theorem dX4_keeps_76 : decode cX4_keeps 76 = .ok (.iaload, 1) := dk_46 (dk_at dksX4_keeps_3 4 rfl rfl)
theorem dX4_keeps_77 : decode cX4_keeps 77 = .ok (.iastore, 1) := dk_79 (dk_at dksX4_keeps_3 5 rfl rfl)
theorem dX4_keeps_78 : decode cX4_keeps 78 = .ok (.aload_n 0, 1) := dk_42 (dk_at dksX4_keeps_3 6 rfl rfl)
theorem dX4_keeps_79 : decode cX4_keeps 79 = .ok (.getfield 44, 3) := dk_180 0 44 (dk_at dksX4_keeps_3 7 rfl rfl)
theorem dX4_keeps_82 : decode cX4_keeps 82 = .ok (.iload_n 2, 1) := dk_28 (dk_at dksX4_keeps_3 10 rfl rfl)
theorem dX4_keeps_83 : decode cX4_keeps 83 = .ok (.aload_n 0, 1) := dk_42 (dk_at dksX4_keeps_3 11 rfl rfl)
theorem dX4_keeps_84 : decode cX4_keeps 84 = .ok (.getfield 225, 3) := dk_180 0 225 (dk_at dksX4_keeps_3 12 rfl rfl)
theorem dX4_keeps_87 : decode cX4_keeps 87 = .ok (.bipush 8, 2) := dk_16 8 (dk_at dksX4_keeps_3 15 rfl rfl)
theorem dX4_keeps_89 : decode cX4_keeps 89 = .ok (.iload_n 2, 1) := dk_28 (dk_at dksX4_keeps_3 17 rfl rfl)
theorem dX4_keeps_90 : decode cX4_keeps 90 = .ok (.imul, 1) := dk_104 (dk_at dksX4_keeps_3 18 rfl rfl)
theorem dX4_keeps_91 : decode cX4_keeps 91 = .ok (.iconst 4, 1) := dk_7 (dk_at dksX4_keeps_3 19 rfl rfl)
theorem dX4_keeps_92 : decode cX4_keeps 92 = .ok (.iadd, 1) := dk_96 (dk_at dksX4_keeps_3 20 rfl rfl)
theorem dX4_keeps_93 : decode cX4_keeps 93 = .ok (.iaload, 1) := dk_46 (dk_at dksX4_keeps_3 21 rfl rfl)
theorem dX4_keeps_94 : decode cX4_keeps 94 = .ok (.iastore, 1) := dk_79 (dk_at dksX4_keeps_3 22 rfl rfl)
theorem dX4_keeps_95 : decode cX4_keeps 95 = .ok (.aload_n 0, 1) := dk_42 (dk_at dksX4_keeps_3 23 rfl rfl)
theorem dX4_keeps_96 : decode cX4_keeps 96 = .ok (.getfield 47, 3) := dk_180 0 47 (dk_at dksX4_keeps_4 0 rfl rfl)
theorem dX4_keeps_99 : decode cX4_keeps 99 = .ok (.iload_n 2, 1) := dk_28 (dk_at dksX4_keeps_4 3 rfl rfl)
theorem dX4_keeps_100 : decode cX4_keeps 100 = .ok (.aload_n 0, 1) := dk_42 (dk_at dksX4_keeps_4 4 rfl rfl)
theorem dX4_keeps_101 : decode cX4_keeps 101 = .ok (.getfield 225, 3) := dk_180 0 225 (dk_at dksX4_keeps_4 5 rfl rfl)
theorem dX4_keeps_104 : decode cX4_keeps 104 = .ok (.bipush 8, 2) := dk_16 8 (dk_at dksX4_keeps_4 8 rfl rfl)
theorem dX4_keeps_106 : decode cX4_keeps 106 = .ok (.iload_n 2, 1) := dk_28 (dk_at dksX4_keeps_4 10 rfl rfl)
theorem dX4_keeps_107 : decode cX4_keeps 107 = .ok (.imul, 1) := dk_104 (dk_at dksX4_keeps_4 11 rfl rfl)
theorem dX4_keeps_108 : decode cX4_keeps 108 = .ok (.iconst 5, 1) := dk_8 (dk_at dksX4_keeps_4 12 rfl rfl)
theorem dX4_keeps_109 : decode cX4_keeps 109 = .ok (.iadd, 1) := dk_96 (dk_at dksX4_keeps_4 13 rfl rfl)
theorem dX4_keeps_110 : decode cX4_keeps 110 = .ok (.iaload, 1) := dk_46 (dk_at dksX4_keeps_4 14 rfl rfl)
theorem dX4_keeps_111 : decode cX4_keeps 111 = .ok (.iastore, 1) := dk_79 (dk_at dksX4_keeps_4 15 rfl rfl)
theorem dX4_keeps_112 : decode cX4_keeps 112 = .ok (.aload_n 0, 1) := dk_42 (dk_at dksX4_keeps_4 16 rfl rfl)
theorem dX4_keeps_113 : decode cX4_keeps 113 = .ok (.getfield 50, 3) := dk_180 0 50 (dk_at dksX4_keeps_4 17 rfl rfl)
theorem dX4_keeps_116 : decode cX4_keeps 116 = .ok (.iload_n 2, 1) := dk_28 (dk_at dksX4_keeps_4 20 rfl rfl)
theorem dX4_keeps_117 : decode cX4_keeps 117 = .ok (.aload_n 0, 1) := dk_42 (dk_at dksX4_keeps_4 21 rfl rfl)
theorem dX4_keeps_118 : decode cX4_keeps 118 = .ok (.getfield 228, 3) := dk_180 0 228 (dk_at dksX4_keeps_5 0 rfl rfl)
theorem dX4_keeps_121 : decode cX4_keeps 121 = .ok (.iload_n 2, 1) := dk_28 (dk_at dksX4_keeps_5 3 rfl rfl)
theorem dX4_keeps_122 : decode cX4_keeps 122 = .ok (.baload, 1) := dk_51 (dk_at dksX4_keeps_5 4 rfl rfl)
theorem dX4_keeps_123 : decode cX4_keeps 123 = .ok (.bastore, 1) := dk_84 (dk_at dksX4_keeps_5 5 rfl rfl)
theorem dX4_keeps_124 : decode cX4_keeps 124 = .ok (.aload_n 0, 1) := dk_42 (dk_at dksX4_keeps_5 6 rfl rfl)
theorem dX4_keeps_125 : decode cX4_keeps 125 = .ok (.getfield 54, 3) := dk_180 0 54 (dk_at dksX4_keeps_5 7 rfl rfl)
theorem dX4_keeps_128 : decode cX4_keeps 128 = .ok (.iload_n 2, 1) := dk_28 (dk_at dksX4_keeps_5 10 rfl rfl)
theorem dX4_keeps_129 : decode cX4_keeps 129 = .ok (.aload_n 0, 1) := dk_42 (dk_at dksX4_keeps_5 11 rfl rfl)
theorem dX4_keeps_130 : decode cX4_keeps 130 = .ok (.getfield 231, 3) := dk_180 0 231 (dk_at dksX4_keeps_5 12 rfl rfl)
theorem dX4_keeps_133 : decode cX4_keeps 133 = .ok (.iload_n 2, 1) := dk_28 (dk_at dksX4_keeps_5 15 rfl rfl)
theorem dX4_keeps_134 : decode cX4_keeps 134 = .ok (.baload, 1) := dk_51 (dk_at dksX4_keeps_5 16 rfl rfl)
theorem dX4_keeps_135 : decode cX4_keeps 135 = .ok (.bastore, 1) := dk_84 (dk_at dksX4_keeps_5 17 rfl rfl)
theorem dX4_keeps_136 : decode cX4_keeps 136 = .ok (.goto 127, 3) := dk_167 0 127 (dk_at dksX4_keeps_5 18 rfl rfl)
theorem dX4_keeps_139 : decode cX4_keeps 139 = .ok (.aload_n 0, 1) := dk_42 (dk_at dksX4_keeps_5 21 rfl rfl)
theorem dX4_keeps_140 : decode cX4_keeps 140 = .ok (.getfield 225, 3) := dk_180 0 225 (dk_at dksX4_keeps_6 0 rfl rfl)
theorem dX4_keeps_143 : decode cX4_keeps 143 = .ok (.bipush 8, 2) := dk_16 8 (dk_at dksX4_keeps_6 3 rfl rfl)
theorem dX4_keeps_145 : decode cX4_keeps 145 = .ok (.iload_n 2, 1) := dk_28 (dk_at dksX4_keeps_6 5 rfl rfl)
theorem dX4_keeps_146 : decode cX4_keeps 146 = .ok (.imul, 1) := dk_104 (dk_at dksX4_keeps_6 6 rfl rfl)
theorem dX4_keeps_147 : decode cX4_keeps 147 = .ok (.aload_n 0, 1) := dk_42 (dk_at dksX4_keeps_6 7 rfl rfl)
theorem dX4_keeps_148 : decode cX4_keeps 148 = .ok (.getfield 29, 3) := dk_180 0 29 (dk_at dksX4_keeps_6 8 rfl rfl)
theorem dX4_keeps_151 : decode cX4_keeps 151 = .ok (.iload_n 2, 1) := dk_28 (dk_at dksX4_keeps_6 11 rfl rfl)
theorem dX4_keeps_152 : decode cX4_keeps 152 = .ok (.iaload, 1) := dk_46 (dk_at dksX4_keeps_6 12 rfl rfl)
theorem dX4_keeps_153 : decode cX4_keeps 153 = .ok (.iastore, 1) := dk_79 (dk_at dksX4_keeps_6 13 rfl rfl)
theorem dX4_keeps_154 : decode cX4_keeps 154 = .ok (.aload_n 0, 1) := dk_42 (dk_at dksX4_keeps_6 14 rfl rfl)
theorem dX4_keeps_155 : decode cX4_keeps 155 = .ok (.getfield 225, 3) := dk_180 0 225 (dk_at dksX4_keeps_6 15 rfl rfl)
theorem dX4_keeps_158 : decode cX4_keeps 158 = .ok (.bipush 8, 2) := dk_16 8 (dk_at dksX4_keeps_6 18 rfl rfl)
theorem dX4_keeps_160 : decode cX4_keeps 160 = .ok (.iload_n 2, 1) := dk_28 (dk_at dksX4_keeps_6 20 rfl rfl)
theorem dX4_keeps_161 : decode cX4_keeps 161 = .ok (.imul, 1) := dk_104 (dk_at dksX4_keeps_6 21 rfl rfl)
theorem dX4_keeps_162 : decode cX4_keeps 162 = .ok (.iconst 1, 1) := dk_4 (dk_at dksX4_keeps_6 22 rfl rfl)
theorem dX4_keeps_163 : decode cX4_keeps 163 = .ok (.iadd, 1) := dk_96 (dk_at dksX4_keeps_6 23 rfl rfl)
theorem dX4_keeps_164 : decode cX4_keeps 164 = .ok (.aload_n 0, 1) := dk_42 (dk_at dksX4_keeps_7 0 rfl rfl)
theorem dX4_keeps_165 : decode cX4_keeps 165 = .ok (.getfield 32, 3) := dk_180 0 32 (dk_at dksX4_keeps_7 1 rfl rfl)
theorem dX4_keeps_168 : decode cX4_keeps 168 = .ok (.iload_n 2, 1) := dk_28 (dk_at dksX4_keeps_7 4 rfl rfl)
theorem dX4_keeps_169 : decode cX4_keeps 169 = .ok (.iaload, 1) := dk_46 (dk_at dksX4_keeps_7 5 rfl rfl)
theorem dX4_keeps_170 : decode cX4_keeps 170 = .ok (.iastore, 1) := dk_79 (dk_at dksX4_keeps_7 6 rfl rfl)
theorem dX4_keeps_171 : decode cX4_keeps 171 = .ok (.aload_n 0, 1) := dk_42 (dk_at dksX4_keeps_7 7 rfl rfl)
theorem dX4_keeps_172 : decode cX4_keeps 172 = .ok (.getfield 225, 3) := dk_180 0 225 (dk_at dksX4_keeps_7 8 rfl rfl)
theorem dX4_keeps_175 : decode cX4_keeps 175 = .ok (.bipush 8, 2) := dk_16 8 (dk_at dksX4_keeps_7 11 rfl rfl)
theorem dX4_keeps_177 : decode cX4_keeps 177 = .ok (.iload_n 2, 1) := dk_28 (dk_at dksX4_keeps_7 13 rfl rfl)
theorem dX4_keeps_178 : decode cX4_keeps 178 = .ok (.imul, 1) := dk_104 (dk_at dksX4_keeps_7 14 rfl rfl)
theorem dX4_keeps_179 : decode cX4_keeps 179 = .ok (.iconst 2, 1) := dk_5 (dk_at dksX4_keeps_7 15 rfl rfl)
theorem dX4_keeps_180 : decode cX4_keeps 180 = .ok (.iadd, 1) := dk_96 (dk_at dksX4_keeps_7 16 rfl rfl)
theorem dX4_keeps_181 : decode cX4_keeps 181 = .ok (.aload_n 0, 1) := dk_42 (dk_at dksX4_keeps_7 17 rfl rfl)
theorem dX4_keeps_182 : decode cX4_keeps 182 = .ok (.getfield 35, 3) := dk_180 0 35 (dk_at dksX4_keeps_7 18 rfl rfl)
theorem dX4_keeps_185 : decode cX4_keeps 185 = .ok (.iload_n 2, 1) := dk_28 (dk_at dksX4_keeps_7 21 rfl rfl)
theorem dX4_keeps_186 : decode cX4_keeps 186 = .ok (.iaload, 1) := dk_46 (dk_at dksX4_keeps_7 22 rfl rfl)
theorem dX4_keeps_187 : decode cX4_keeps 187 = .ok (.iastore, 1) := dk_79 (dk_at dksX4_keeps_7 23 rfl rfl)
theorem dX4_keeps_188 : decode cX4_keeps 188 = .ok (.aload_n 0, 1) := dk_42 (dk_at dksX4_keeps_8 0 rfl rfl)
theorem dX4_keeps_189 : decode cX4_keeps 189 = .ok (.getfield 225, 3) := dk_180 0 225 (dk_at dksX4_keeps_8 1 rfl rfl)
theorem dX4_keeps_192 : decode cX4_keeps 192 = .ok (.bipush 8, 2) := dk_16 8 (dk_at dksX4_keeps_8 4 rfl rfl)
theorem dX4_keeps_194 : decode cX4_keeps 194 = .ok (.iload_n 2, 1) := dk_28 (dk_at dksX4_keeps_8 6 rfl rfl)
theorem dX4_keeps_195 : decode cX4_keeps 195 = .ok (.imul, 1) := dk_104 (dk_at dksX4_keeps_8 7 rfl rfl)
theorem dX4_keeps_196 : decode cX4_keeps 196 = .ok (.iconst 3, 1) := dk_6 (dk_at dksX4_keeps_8 8 rfl rfl)
theorem dX4_keeps_197 : decode cX4_keeps 197 = .ok (.iadd, 1) := dk_96 (dk_at dksX4_keeps_8 9 rfl rfl)
theorem dX4_keeps_198 : decode cX4_keeps 198 = .ok (.aload_n 0, 1) := dk_42 (dk_at dksX4_keeps_8 10 rfl rfl)
theorem dX4_keeps_199 : decode cX4_keeps 199 = .ok (.getfield 38, 3) := dk_180 0 38 (dk_at dksX4_keeps_8 11 rfl rfl)
theorem dX4_keeps_202 : decode cX4_keeps 202 = .ok (.iload_n 2, 1) := dk_28 (dk_at dksX4_keeps_8 14 rfl rfl)
theorem dX4_keeps_203 : decode cX4_keeps 203 = .ok (.iaload, 1) := dk_46 (dk_at dksX4_keeps_8 15 rfl rfl)
theorem dX4_keeps_204 : decode cX4_keeps 204 = .ok (.iastore, 1) := dk_79 (dk_at dksX4_keeps_8 16 rfl rfl)
theorem dX4_keeps_205 : decode cX4_keeps 205 = .ok (.aload_n 0, 1) := dk_42 (dk_at dksX4_keeps_8 17 rfl rfl)
theorem dX4_keeps_206 : decode cX4_keeps 206 = .ok (.getfield 225, 3) := dk_180 0 225 (dk_at dksX4_keeps_8 18 rfl rfl)
theorem dX4_keeps_209 : decode cX4_keeps 209 = .ok (.bipush 8, 2) := dk_16 8 (dk_at dksX4_keeps_8 21 rfl rfl)
theorem dX4_keeps_211 : decode cX4_keeps 211 = .ok (.iload_n 2, 1) := dk_28 (dk_at dksX4_keeps_8 23 rfl rfl)
theorem dX4_keeps_212 : decode cX4_keeps 212 = .ok (.imul, 1) := dk_104 (dk_at dksX4_keeps_9 0 rfl rfl)
theorem dX4_keeps_213 : decode cX4_keeps 213 = .ok (.iconst 4, 1) := dk_7 (dk_at dksX4_keeps_9 1 rfl rfl)
theorem dX4_keeps_214 : decode cX4_keeps 214 = .ok (.iadd, 1) := dk_96 (dk_at dksX4_keeps_9 2 rfl rfl)
theorem dX4_keeps_215 : decode cX4_keeps 215 = .ok (.aload_n 0, 1) := dk_42 (dk_at dksX4_keeps_9 3 rfl rfl)
theorem dX4_keeps_216 : decode cX4_keeps 216 = .ok (.getfield 44, 3) := dk_180 0 44 (dk_at dksX4_keeps_9 4 rfl rfl)
theorem dX4_keeps_219 : decode cX4_keeps 219 = .ok (.iload_n 2, 1) := dk_28 (dk_at dksX4_keeps_9 7 rfl rfl)
theorem dX4_keeps_220 : decode cX4_keeps 220 = .ok (.iaload, 1) := dk_46 (dk_at dksX4_keeps_9 8 rfl rfl)
theorem dX4_keeps_221 : decode cX4_keeps 221 = .ok (.iastore, 1) := dk_79 (dk_at dksX4_keeps_9 9 rfl rfl)
theorem dX4_keeps_222 : decode cX4_keeps 222 = .ok (.aload_n 0, 1) := dk_42 (dk_at dksX4_keeps_9 10 rfl rfl)
theorem dX4_keeps_223 : decode cX4_keeps 223 = .ok (.getfield 225, 3) := dk_180 0 225 (dk_at dksX4_keeps_9 11 rfl rfl)
theorem dX4_keeps_226 : decode cX4_keeps 226 = .ok (.bipush 8, 2) := dk_16 8 (dk_at dksX4_keeps_9 14 rfl rfl)
theorem dX4_keeps_228 : decode cX4_keeps 228 = .ok (.iload_n 2, 1) := dk_28 (dk_at dksX4_keeps_9 16 rfl rfl)
theorem dX4_keeps_229 : decode cX4_keeps 229 = .ok (.imul, 1) := dk_104 (dk_at dksX4_keeps_9 17 rfl rfl)
theorem dX4_keeps_230 : decode cX4_keeps 230 = .ok (.iconst 5, 1) := dk_8 (dk_at dksX4_keeps_9 18 rfl rfl)
theorem dX4_keeps_231 : decode cX4_keeps 231 = .ok (.iadd, 1) := dk_96 (dk_at dksX4_keeps_9 19 rfl rfl)
theorem dX4_keeps_232 : decode cX4_keeps 232 = .ok (.aload_n 0, 1) := dk_42 (dk_at dksX4_keeps_9 20 rfl rfl)
theorem dX4_keeps_233 : decode cX4_keeps 233 = .ok (.getfield 47, 3) := dk_180 0 47 (dk_at dksX4_keeps_9 21 rfl rfl)
theorem dX4_keeps_236 : decode cX4_keeps 236 = .ok (.iload_n 2, 1) := dk_28 (dk_at dksX4_keeps_10 0 rfl rfl)
theorem dX4_keeps_237 : decode cX4_keeps 237 = .ok (.iaload, 1) := dk_46 (dk_at dksX4_keeps_10 1 rfl rfl)
theorem dX4_keeps_238 : decode cX4_keeps 238 = .ok (.iastore, 1) := dk_79 (dk_at dksX4_keeps_10 2 rfl rfl)
theorem dX4_keeps_239 : decode cX4_keeps 239 = .ok (.aload_n 0, 1) := dk_42 (dk_at dksX4_keeps_10 3 rfl rfl)
theorem dX4_keeps_240 : decode cX4_keeps 240 = .ok (.getfield 228, 3) := dk_180 0 228 (dk_at dksX4_keeps_10 4 rfl rfl)
theorem dX4_keeps_243 : decode cX4_keeps 243 = .ok (.iload_n 2, 1) := dk_28 (dk_at dksX4_keeps_10 7 rfl rfl)
theorem dX4_keeps_244 : decode cX4_keeps 244 = .ok (.aload_n 0, 1) := dk_42 (dk_at dksX4_keeps_10 8 rfl rfl)
theorem dX4_keeps_245 : decode cX4_keeps 245 = .ok (.getfield 50, 3) := dk_180 0 50 (dk_at dksX4_keeps_10 9 rfl rfl)
theorem dX4_keeps_248 : decode cX4_keeps 248 = .ok (.iload_n 2, 1) := dk_28 (dk_at dksX4_keeps_10 12 rfl rfl)
theorem dX4_keeps_249 : decode cX4_keeps 249 = .ok (.baload, 1) := dk_51 (dk_at dksX4_keeps_10 13 rfl rfl)
theorem dX4_keeps_250 : decode cX4_keeps 250 = .ok (.bastore, 1) := dk_84 (dk_at dksX4_keeps_10 14 rfl rfl)
theorem dX4_keeps_251 : decode cX4_keeps 251 = .ok (.aload_n 0, 1) := dk_42 (dk_at dksX4_keeps_10 15 rfl rfl)
theorem dX4_keeps_252 : decode cX4_keeps 252 = .ok (.getfield 231, 3) := dk_180 0 231 (dk_at dksX4_keeps_10 16 rfl rfl)
theorem dX4_keeps_255 : decode cX4_keeps 255 = .ok (.iload_n 2, 1) := dk_28 (dk_at dksX4_keeps_10 19 rfl rfl)
theorem dX4_keeps_256 : decode cX4_keeps 256 = .ok (.aload_n 0, 1) := dk_42 (dk_at dksX4_keeps_10 20 rfl rfl)
theorem dX4_keeps_257 : decode cX4_keeps 257 = .ok (.getfield 54, 3) := dk_180 0 54 (dk_at dksX4_keeps_10 21 rfl rfl)
theorem dX4_keeps_260 : decode cX4_keeps 260 = .ok (.iload_n 2, 1) := dk_28 (dk_at dksX4_keeps_11 0 rfl rfl)
theorem dX4_keeps_261 : decode cX4_keeps 261 = .ok (.baload, 1) := dk_51 (dk_at dksX4_keeps_11 1 rfl rfl)
theorem dX4_keeps_262 : decode cX4_keeps 262 = .ok (.bastore, 1) := dk_84 (dk_at dksX4_keeps_11 2 rfl rfl)
theorem dX4_keeps_263 : decode cX4_keeps 263 = .ok (.iinc 2 1, 3) := dk_132 2 1 (dk_at dksX4_keeps_11 3 rfl rfl)
theorem dX4_keeps_266 : decode cX4_keeps 266 = .ok (.goto (-264), 3) := dk_167 254 248 (dk_at dksX4_keeps_11 6 rfl rfl)
theorem dX4_keeps_269 : decode cX4_keeps 269 = .ok (.return_, 1) := dk_177 (dk_at dksX4_keeps_11 9 rfl rfl)
abbrev cX4_foresees : ByteArray := prog_23_method_93_code
def yX4_foresees : MethodName := ⟨RX4, "foresees", "(I)I"⟩
def dkwX4_foresees_5 : List UInt8 := [132, 3, 1, 167, 255, 157, 42, 182, 1, 26, 28, 172]
abbrev dktX4_foresees_5 : List UInt8 := dkwX4_foresees_5 ++ []
def dkwX4_foresees_4 : List UInt8 := [104, 42, 180, 0, 32, 29, 46, 108, 79, 42, 180, 0, 32, 29, 21, 4, 79, 42, 180, 0, 50, 29, 4, 84]
abbrev dktX4_foresees_4 : List UInt8 := dkwX4_foresees_4 ++ dktX4_foresees_5
def dkwX4_foresees_3 : List UInt8 := [167, 0, 48, 28, 42, 180, 0, 32, 29, 46, 21, 4, 100, 96, 61, 42, 180, 0, 38, 29, 16, 100, 21, 4]
abbrev dktX4_foresees_3 : List UInt8 := dkwX4_foresees_3 ++ dktX4_foresees_4
def dkwX4_foresees_2 : List UInt8 := [167, 0, 70, 42, 27, 29, 182, 1, 194, 54, 4, 42, 180, 0, 32, 29, 46, 21, 4, 163, 0, 6]
abbrev dktX4_foresees_2 : List UInt8 := dkwX4_foresees_2 ++ dktX4_foresees_3
def dkwX4_foresees_1 : List UInt8 := [180, 0, 248, 162, 0, 97, 42, 180, 0, 50, 29, 51, 154, 0, 82, 42, 27, 29, 182, 1, 190, 153, 0, 6]
abbrev dktX4_foresees_1 : List UInt8 := dkwX4_foresees_1 ++ dktX4_foresees_2
def dkwX4_foresees_0 : List UInt8 := [42, 182, 0, 241, 16, 59, 162, 0, 10, 42, 182, 1, 26, 167, 255, 243, 3, 61, 3, 62, 29, 42]
abbrev dktX4_foresees_0 : List UInt8 := dkwX4_foresees_0 ++ dktX4_foresees_1
theorem dksX4_foresees_0 : cX4_foresees.data.toList.drop 0 = dktX4_foresees_0 := by decide +kernel
theorem dksX4_foresees_1 : cX4_foresees.data.toList.drop 22 = dktX4_foresees_1 := dk_seg dksX4_foresees_0 22 rfl rfl
theorem dksX4_foresees_2 : cX4_foresees.data.toList.drop 46 = dktX4_foresees_2 := dk_seg dksX4_foresees_1 24 rfl rfl
theorem dksX4_foresees_3 : cX4_foresees.data.toList.drop 68 = dktX4_foresees_3 := dk_seg dksX4_foresees_2 22 rfl rfl
theorem dksX4_foresees_4 : cX4_foresees.data.toList.drop 92 = dktX4_foresees_4 := dk_seg dksX4_foresees_3 24 rfl rfl
theorem dksX4_foresees_5 : cX4_foresees.data.toList.drop 116 = dktX4_foresees_5 := dk_seg dksX4_foresees_4 24 rfl rfl
theorem dX4_foresees_0 : decode cX4_foresees 0 = .ok (.aload_n 0, 1) := dk_42 (dk_at dksX4_foresees_0 0 rfl rfl)
theorem dX4_foresees_1 : decode cX4_foresees 1 = .ok (.invokevirtual 241, 3) := dk_182 0 241 (dk_at dksX4_foresees_0 1 rfl rfl)
theorem dX4_foresees_4 : decode cX4_foresees 4 = .ok (.bipush 59, 2) := dk_16 59 (dk_at dksX4_foresees_0 4 rfl rfl)
theorem dX4_foresees_6 : decode cX4_foresees 6 = .ok (.if_icmp .ge 10, 3) := dk_162 0 10 (dk_at dksX4_foresees_0 6 rfl rfl)
theorem dX4_foresees_9 : decode cX4_foresees 9 = .ok (.aload_n 0, 1) := dk_42 (dk_at dksX4_foresees_0 9 rfl rfl)
theorem dX4_foresees_10 : decode cX4_foresees 10 = .ok (.invokevirtual 282, 3) := dk_182 1 26 (dk_at dksX4_foresees_0 10 rfl rfl)
theorem dX4_foresees_13 : decode cX4_foresees 13 = .ok (.goto (-13), 3) := dk_167 255 243 (dk_at dksX4_foresees_0 13 rfl rfl)
theorem dX4_foresees_16 : decode cX4_foresees 16 = .ok (.iconst 0, 1) := dk_3 (dk_at dksX4_foresees_0 16 rfl rfl)
theorem dX4_foresees_17 : decode cX4_foresees 17 = .ok (.istore_n 2, 1) := dk_61 (dk_at dksX4_foresees_0 17 rfl rfl)
theorem dX4_foresees_18 : decode cX4_foresees 18 = .ok (.iconst 0, 1) := dk_3 (dk_at dksX4_foresees_0 18 rfl rfl)
theorem dX4_foresees_19 : decode cX4_foresees 19 = .ok (.istore_n 3, 1) := dk_62 (dk_at dksX4_foresees_0 19 rfl rfl)
theorem dX4_foresees_20 : decode cX4_foresees 20 = .ok (.iload_n 3, 1) := dk_29 (dk_at dksX4_foresees_0 20 rfl rfl)
theorem dX4_foresees_21 : decode cX4_foresees 21 = .ok (.aload_n 0, 1) := dk_42 (dk_at dksX4_foresees_0 21 rfl rfl)
theorem dX4_foresees_22 : decode cX4_foresees 22 = .ok (.getfield 248, 3) := dk_180 0 248 (dk_at dksX4_foresees_1 0 rfl rfl)
theorem dX4_foresees_25 : decode cX4_foresees 25 = .ok (.if_icmp .ge 97, 3) := dk_162 0 97 (dk_at dksX4_foresees_1 3 rfl rfl)
theorem dX4_foresees_28 : decode cX4_foresees 28 = .ok (.aload_n 0, 1) := dk_42 (dk_at dksX4_foresees_1 6 rfl rfl)
theorem dX4_foresees_29 : decode cX4_foresees 29 = .ok (.getfield 50, 3) := dk_180 0 50 (dk_at dksX4_foresees_1 7 rfl rfl)
theorem dX4_foresees_32 : decode cX4_foresees 32 = .ok (.iload_n 3, 1) := dk_29 (dk_at dksX4_foresees_1 10 rfl rfl)
theorem dX4_foresees_33 : decode cX4_foresees 33 = .ok (.baload, 1) := dk_51 (dk_at dksX4_foresees_1 11 rfl rfl)
theorem dX4_foresees_34 : decode cX4_foresees 34 = .ok (.ifCond .ne 82, 3) := dk_154 0 82 (dk_at dksX4_foresees_1 12 rfl rfl)
theorem dX4_foresees_37 : decode cX4_foresees 37 = .ok (.aload_n 0, 1) := dk_42 (dk_at dksX4_foresees_1 15 rfl rfl)
theorem dX4_foresees_38 : decode cX4_foresees 38 = .ok (.iload_n 1, 1) := dk_27 (dk_at dksX4_foresees_1 16 rfl rfl)
theorem dX4_foresees_39 : decode cX4_foresees 39 = .ok (.iload_n 3, 1) := dk_29 (dk_at dksX4_foresees_1 17 rfl rfl)
theorem dX4_foresees_40 : decode cX4_foresees 40 = .ok (.invokevirtual 446, 3) := dk_182 1 190 (dk_at dksX4_foresees_1 18 rfl rfl)
theorem dX4_foresees_43 : decode cX4_foresees 43 = .ok (.ifCond .eq 6, 3) := dk_153 0 6 (dk_at dksX4_foresees_1 21 rfl rfl)
theorem dX4_foresees_46 : decode cX4_foresees 46 = .ok (.goto 70, 3) := dk_167 0 70 (dk_at dksX4_foresees_2 0 rfl rfl)
theorem dX4_foresees_49 : decode cX4_foresees 49 = .ok (.aload_n 0, 1) := dk_42 (dk_at dksX4_foresees_2 3 rfl rfl)
theorem dX4_foresees_50 : decode cX4_foresees 50 = .ok (.iload_n 1, 1) := dk_27 (dk_at dksX4_foresees_2 4 rfl rfl)
theorem dX4_foresees_51 : decode cX4_foresees 51 = .ok (.iload_n 3, 1) := dk_29 (dk_at dksX4_foresees_2 5 rfl rfl)
theorem dX4_foresees_52 : decode cX4_foresees 52 = .ok (.invokevirtual 450, 3) := dk_182 1 194 (dk_at dksX4_foresees_2 6 rfl rfl)
theorem dX4_foresees_55 : decode cX4_foresees 55 = .ok (.istore 4, 2) := dk_54 4 (dk_at dksX4_foresees_2 9 rfl rfl)
theorem dX4_foresees_57 : decode cX4_foresees 57 = .ok (.aload_n 0, 1) := dk_42 (dk_at dksX4_foresees_2 11 rfl rfl)
theorem dX4_foresees_58 : decode cX4_foresees 58 = .ok (.getfield 32, 3) := dk_180 0 32 (dk_at dksX4_foresees_2 12 rfl rfl)
theorem dX4_foresees_61 : decode cX4_foresees 61 = .ok (.iload_n 3, 1) := dk_29 (dk_at dksX4_foresees_2 15 rfl rfl)
theorem dX4_foresees_62 : decode cX4_foresees 62 = .ok (.iaload, 1) := dk_46 (dk_at dksX4_foresees_2 16 rfl rfl)
theorem dX4_foresees_63 : decode cX4_foresees 63 = .ok (.iload 4, 2) := dk_21 4 (dk_at dksX4_foresees_2 17 rfl rfl)
theorem dX4_foresees_65 : decode cX4_foresees 65 = .ok (.if_icmp .gt 6, 3) := dk_163 0 6 (dk_at dksX4_foresees_2 19 rfl rfl)
theorem dX4_foresees_68 : decode cX4_foresees 68 = .ok (.goto 48, 3) := dk_167 0 48 (dk_at dksX4_foresees_3 0 rfl rfl)
theorem dX4_foresees_71 : decode cX4_foresees 71 = .ok (.iload_n 2, 1) := dk_28 (dk_at dksX4_foresees_3 3 rfl rfl)
theorem dX4_foresees_72 : decode cX4_foresees 72 = .ok (.aload_n 0, 1) := dk_42 (dk_at dksX4_foresees_3 4 rfl rfl)
theorem dX4_foresees_73 : decode cX4_foresees 73 = .ok (.getfield 32, 3) := dk_180 0 32 (dk_at dksX4_foresees_3 5 rfl rfl)
theorem dX4_foresees_76 : decode cX4_foresees 76 = .ok (.iload_n 3, 1) := dk_29 (dk_at dksX4_foresees_3 8 rfl rfl)
theorem dX4_foresees_77 : decode cX4_foresees 77 = .ok (.iaload, 1) := dk_46 (dk_at dksX4_foresees_3 9 rfl rfl)
theorem dX4_foresees_78 : decode cX4_foresees 78 = .ok (.iload 4, 2) := dk_21 4 (dk_at dksX4_foresees_3 10 rfl rfl)
theorem dX4_foresees_80 : decode cX4_foresees 80 = .ok (.isub, 1) := dk_100 (dk_at dksX4_foresees_3 12 rfl rfl)
theorem dX4_foresees_81 : decode cX4_foresees 81 = .ok (.iadd, 1) := dk_96 (dk_at dksX4_foresees_3 13 rfl rfl)
theorem dX4_foresees_82 : decode cX4_foresees 82 = .ok (.istore_n 2, 1) := dk_61 (dk_at dksX4_foresees_3 14 rfl rfl)
theorem dX4_foresees_83 : decode cX4_foresees 83 = .ok (.aload_n 0, 1) := dk_42 (dk_at dksX4_foresees_3 15 rfl rfl)
theorem dX4_foresees_84 : decode cX4_foresees 84 = .ok (.getfield 38, 3) := dk_180 0 38 (dk_at dksX4_foresees_3 16 rfl rfl)
theorem dX4_foresees_87 : decode cX4_foresees 87 = .ok (.iload_n 3, 1) := dk_29 (dk_at dksX4_foresees_3 19 rfl rfl)
theorem dX4_foresees_88 : decode cX4_foresees 88 = .ok (.bipush 100, 2) := dk_16 100 (dk_at dksX4_foresees_3 20 rfl rfl)
theorem dX4_foresees_90 : decode cX4_foresees 90 = .ok (.iload 4, 2) := dk_21 4 (dk_at dksX4_foresees_3 22 rfl rfl)
theorem dX4_foresees_92 : decode cX4_foresees 92 = .ok (.imul, 1) := dk_104 (dk_at dksX4_foresees_4 0 rfl rfl)
theorem dX4_foresees_93 : decode cX4_foresees 93 = .ok (.aload_n 0, 1) := dk_42 (dk_at dksX4_foresees_4 1 rfl rfl)
theorem dX4_foresees_94 : decode cX4_foresees 94 = .ok (.getfield 32, 3) := dk_180 0 32 (dk_at dksX4_foresees_4 2 rfl rfl)
theorem dX4_foresees_97 : decode cX4_foresees 97 = .ok (.iload_n 3, 1) := dk_29 (dk_at dksX4_foresees_4 5 rfl rfl)
theorem dX4_foresees_98 : decode cX4_foresees 98 = .ok (.iaload, 1) := dk_46 (dk_at dksX4_foresees_4 6 rfl rfl)
theorem dX4_foresees_99 : decode cX4_foresees 99 = .ok (.idiv, 1) := dk_108 (dk_at dksX4_foresees_4 7 rfl rfl)
theorem dX4_foresees_100 : decode cX4_foresees 100 = .ok (.iastore, 1) := dk_79 (dk_at dksX4_foresees_4 8 rfl rfl)
theorem dX4_foresees_101 : decode cX4_foresees 101 = .ok (.aload_n 0, 1) := dk_42 (dk_at dksX4_foresees_4 9 rfl rfl)
theorem dX4_foresees_102 : decode cX4_foresees 102 = .ok (.getfield 32, 3) := dk_180 0 32 (dk_at dksX4_foresees_4 10 rfl rfl)
theorem dX4_foresees_105 : decode cX4_foresees 105 = .ok (.iload_n 3, 1) := dk_29 (dk_at dksX4_foresees_4 13 rfl rfl)
theorem dX4_foresees_106 : decode cX4_foresees 106 = .ok (.iload 4, 2) := dk_21 4 (dk_at dksX4_foresees_4 14 rfl rfl)
theorem dX4_foresees_108 : decode cX4_foresees 108 = .ok (.iastore, 1) := dk_79 (dk_at dksX4_foresees_4 16 rfl rfl)
theorem dX4_foresees_109 : decode cX4_foresees 109 = .ok (.aload_n 0, 1) := dk_42 (dk_at dksX4_foresees_4 17 rfl rfl)
theorem dX4_foresees_110 : decode cX4_foresees 110 = .ok (.getfield 50, 3) := dk_180 0 50 (dk_at dksX4_foresees_4 18 rfl rfl)
theorem dX4_foresees_113 : decode cX4_foresees 113 = .ok (.iload_n 3, 1) := dk_29 (dk_at dksX4_foresees_4 21 rfl rfl)
theorem dX4_foresees_114 : decode cX4_foresees 114 = .ok (.iconst 1, 1) := dk_4 (dk_at dksX4_foresees_4 22 rfl rfl)
theorem dX4_foresees_115 : decode cX4_foresees 115 = .ok (.bastore, 1) := dk_84 (dk_at dksX4_foresees_4 23 rfl rfl)
theorem dX4_foresees_116 : decode cX4_foresees 116 = .ok (.iinc 3 1, 3) := dk_132 3 1 (dk_at dksX4_foresees_5 0 rfl rfl)
theorem dX4_foresees_119 : decode cX4_foresees 119 = .ok (.goto (-99), 3) := dk_167 255 157 (dk_at dksX4_foresees_5 3 rfl rfl)
theorem dX4_foresees_122 : decode cX4_foresees 122 = .ok (.aload_n 0, 1) := dk_42 (dk_at dksX4_foresees_5 6 rfl rfl)
theorem dX4_foresees_123 : decode cX4_foresees 123 = .ok (.invokevirtual 282, 3) := dk_182 1 26 (dk_at dksX4_foresees_5 7 rfl rfl)
theorem dX4_foresees_126 : decode cX4_foresees 126 = .ok (.iload_n 2, 1) := dk_28 (dk_at dksX4_foresees_5 10 rfl rfl)
theorem dX4_foresees_127 : decode cX4_foresees 127 = .ok (.ireturn, 1) := dk_172 (dk_at dksX4_foresees_5 11 rfl rfl)
theorem q104 : (Jvm.Cond.initialized "CliffHoneyModel") ∈ lw_all := lw_g (lw_at lw_m1 7 rfl) rfl
theorem q1506 : (Jvm.Cond.instantiable "CliffHoneyModel" (103 : Nat)) ∈ lw_all := lw_g (lw_at lw_m6 209 rfl) rfl
theorem q1508 : (Jvm.Cond.instanceMethod ({ cls := "CliffHoneyModel", name := "<init>", desc := "()V" } : Jvm.MethodName)) ∈ lw_all := lw_g (lw_at lw_m6 211 rfl) rfl
theorem q1509 : (Jvm.Cond.code ({ cls := "CliffHoneyModel", name := "<init>", desc := "()V" } : Jvm.MethodName) prog_23_method_1_code (2 : Nat) (Option.none : Option Jvm.ClassFile.FieldType)) ∈ lw_all := lw_g (lw_at lw_m6 212 rfl) rfl
theorem q1510 : (Jvm.Cond.methodLink "CliffHoneyModel" (1 : Nat) ({ cls := "java/lang/Object", name := "<init>", desc := "()V" } : Jvm.MethodName)) ∈ lw_all := lw_g (lw_at lw_m6 213 rfl) rfl
theorem q1511 : (Jvm.Cond.fieldLink "CliffHoneyModel" (234 : Nat) "CliffHoneyModel" "date" "I") ∈ lw_all := lw_g (lw_at lw_m6 214 rfl) rfl
theorem q1512 : (Jvm.Cond.fieldLink "CliffHoneyModel" (285 : Nat) "CliffHoneyModel" "wind" "I") ∈ lw_all := lw_g (lw_at lw_m6 215 rfl) rfl
theorem q1513 : (Jvm.Cond.fieldLink "CliffHoneyModel" (7 : Nat) "CliffHoneyModel" "sun" "I") ∈ lw_all := lw_g (lw_at lw_m6 216 rfl) rfl
theorem q1514 : (Jvm.Cond.fieldLink "CliffHoneyModel" (13 : Nat) "CliffHoneyModel" "stings" "I") ∈ lw_all := lw_g (lw_at lw_m6 217 rfl) rfl
theorem q1515 : (Jvm.Cond.fieldLink "CliffHoneyModel" (16 : Nat) "CliffHoneyModel" "give" "[I") ∈ lw_all := lw_g (lw_at lw_m6 218 rfl) rfl
theorem q1516 : (Jvm.Cond.fieldLink "CliffHoneyModel" (20 : Nat) "CliffHoneyModel" "mad" "[I") ∈ lw_all := lw_g (lw_at lw_m6 219 rfl) rfl
theorem q1517 : (Jvm.Cond.fieldLink "CliffHoneyModel" (248 : Nat) "CliffHoneyModel" "ledges" "I") ∈ lw_all := lw_g (lw_at lw_m6 220 rfl) rfl
theorem q1518 : (Jvm.Cond.fieldLink "CliffHoneyModel" (23 : Nat) "CliffHoneyModel" "column" "[I") ∈ lw_all := lw_g (lw_at lw_m6 221 rfl) rfl
theorem q1519 : (Jvm.Cond.fieldLink "CliffHoneyModel" (26 : Nat) "CliffHoneyModel" "height" "[I") ∈ lw_all := lw_g (lw_at lw_m6 222 rfl) rfl
theorem q1520 : (Jvm.Cond.fieldLink "CliffHoneyModel" (29 : Nat) "CliffHoneyModel" "strength" "[I") ∈ lw_all := lw_g (lw_at lw_m6 223 rfl) rfl
theorem q1521 : (Jvm.Cond.fieldLink "CliffHoneyModel" (32 : Nat) "CliffHoneyModel" "comb" "[I") ∈ lw_all := lw_g (lw_at lw_m6 224 rfl) rfl
theorem q1522 : (Jvm.Cond.fieldLink "CliffHoneyModel" (35 : Nat) "CliffHoneyModel" "madness" "[I") ∈ lw_all := lw_g (lw_at lw_m6 225 rfl) rfl
theorem q1523 : (Jvm.Cond.fieldLink "CliffHoneyModel" (38 : Nat) "CliffHoneyModel" "kept" "[I") ∈ lw_all := lw_g (lw_at lw_m6 226 rfl) rfl
theorem q1524 : (Jvm.Cond.fieldLink "CliffHoneyModel" (41 : Nat) "CliffHoneyModel" "finder" "[I") ∈ lw_all := lw_g (lw_at lw_m6 227 rfl) rfl
theorem q1525 : (Jvm.Cond.fieldLink "CliffHoneyModel" (44 : Nat) "CliffHoneyModel" "guessLow" "[I") ∈ lw_all := lw_g (lw_at lw_m6 228 rfl) rfl
theorem q1526 : (Jvm.Cond.fieldLink "CliffHoneyModel" (47 : Nat) "CliffHoneyModel" "guessHigh" "[I") ∈ lw_all := lw_g (lw_at lw_m6 229 rfl) rfl
theorem q1527 : (Jvm.Cond.fieldLink "CliffHoneyModel" (50 : Nat) "CliffHoneyModel" "isCut" "[Z") ∈ lw_all := lw_g (lw_at lw_m6 230 rfl) rfl
theorem q1528 : (Jvm.Cond.fieldLink "CliffHoneyModel" (54 : Nat) "CliffHoneyModel" "isSprayed" "[Z") ∈ lw_all := lw_g (lw_at lw_m6 231 rfl) rfl
theorem q1529 : (Jvm.Cond.fieldLink "CliffHoneyModel" (57 : Nat) "CliffHoneyModel" "many" "[I") ∈ lw_all := lw_g (lw_at lw_m6 232 rfl) rfl
theorem q1530 : (Jvm.Cond.fieldLink "CliffHoneyModel" (60 : Nat) "CliffHoneyModel" "learn" "[I") ∈ lw_all := lw_g (lw_at lw_m6 233 rfl) rfl
theorem q1531 : (Jvm.Cond.fieldLink "CliffHoneyModel" (63 : Nat) "CliffHoneyModel" "old" "[I") ∈ lw_all := lw_g (lw_at lw_m6 234 rfl) rfl
theorem q1532 : (Jvm.Cond.fieldLink "CliffHoneyModel" (66 : Nat) "CliffHoneyModel" "shares" "[I") ∈ lw_all := lw_g (lw_at lw_m6 235 rfl) rfl
theorem q1533 : (Jvm.Cond.fieldLink "CliffHoneyModel" (69 : Nat) "CliffHoneyModel" "sort" "[I") ∈ lw_all := lw_g (lw_at lw_m6 236 rfl) rfl
theorem q1534 : (Jvm.Cond.fieldLink "CliffHoneyModel" (72 : Nat) "CliffHoneyModel" "from" "[I") ∈ lw_all := lw_g (lw_at lw_m6 237 rfl) rfl
theorem q1535 : (Jvm.Cond.fieldLink "CliffHoneyModel" (75 : Nat) "CliffHoneyModel" "when" "[I") ∈ lw_all := lw_g (lw_at lw_m6 238 rfl) rfl
theorem q1536 : (Jvm.Cond.fieldLink "CliffHoneyModel" (78 : Nat) "CliffHoneyModel" "step" "[I") ∈ lw_all := lw_g (lw_at lw_m6 239 rfl) rfl
theorem q1537 : (Jvm.Cond.fieldLink "CliffHoneyModel" (81 : Nat) "CliffHoneyModel" "freshSort" "[I") ∈ lw_all := lw_g (lw_at lw_m7 0 rfl) rfl
theorem q1538 : (Jvm.Cond.fieldLink "CliffHoneyModel" (84 : Nat) "CliffHoneyModel" "freshFrom" "[I") ∈ lw_all := lw_g (lw_at lw_m7 1 rfl) rfl
theorem q1539 : (Jvm.Cond.fieldLink "CliffHoneyModel" (87 : Nat) "CliffHoneyModel" "freshWhen" "[I") ∈ lw_all := lw_g (lw_at lw_m7 2 rfl) rfl
theorem q1540 : (Jvm.Cond.fieldLink "CliffHoneyModel" (90 : Nat) "CliffHoneyModel" "freshWho" "[I") ∈ lw_all := lw_g (lw_at lw_m7 3 rfl) rfl
theorem q1541 : (Jvm.Cond.fieldLink "CliffHoneyModel" (93 : Nat) "CliffHoneyModel" "freshNumber" "[I") ∈ lw_all := lw_g (lw_at lw_m7 4 rfl) rfl
theorem q1542 : (Jvm.Cond.fieldLink "CliffHoneyModel" (96 : Nat) "CliffHoneyModel" "fresh" "[I") ∈ lw_all := lw_g (lw_at lw_m7 5 rfl) rfl
theorem q1543 : (Jvm.Cond.fieldLink "CliffHoneyModel" (99 : Nat) "CliffHoneyModel" "tape" "[I") ∈ lw_all := lw_g (lw_at lw_m7 6 rfl) rfl
theorem q1544 : (Jvm.Cond.fieldLink "CliffHoneyModel" (102 : Nat) "CliffHoneyModel" "pile" "[I") ∈ lw_all := lw_g (lw_at lw_m7 7 rfl) rfl
theorem q1545 : (Jvm.Cond.fieldLink "CliffHoneyModel" (411 : Nat) "CliffHoneyModel" "freshLines" "I") ∈ lw_all := lw_g (lw_at lw_m7 8 rfl) rfl
theorem q1546 : (Jvm.Cond.fieldLink "CliffHoneyModel" (379 : Nat) "CliffHoneyModel" "freshSteps" "I") ∈ lw_all := lw_g (lw_at lw_m7 9 rfl) rfl
theorem q1547 : (Jvm.Cond.fieldLink "CliffHoneyModel" (297 : Nat) "CliffHoneyModel" "taped" "I") ∈ lw_all := lw_g (lw_at lw_m7 10 rfl) rfl
theorem q1548 : (Jvm.Cond.fieldLink "CliffHoneyModel" (342 : Nat) "CliffHoneyModel" "at" "I") ∈ lw_all := lw_g (lw_at lw_m7 11 rfl) rfl
theorem q1549 : (Jvm.Cond.fieldLink "CliffHoneyModel" (351 : Nat) "CliffHoneyModel" "token" "I") ∈ lw_all := lw_g (lw_at lw_m7 12 rfl) rfl
theorem q1550 : (Jvm.Cond.fieldLink "CliffHoneyModel" (348 : Nat) "CliffHoneyModel" "tokenAt" "I") ∈ lw_all := lw_g (lw_at lw_m7 13 rfl) rfl
theorem q1551 : (Jvm.Cond.fieldLink "CliffHoneyModel" (364 : Nat) "CliffHoneyModel" "value" "I") ∈ lw_all := lw_g (lw_at lw_m7 14 rfl) rfl
theorem q1552 : (Jvm.Cond.fieldLink "CliffHoneyModel" (367 : Nat) "CliffHoneyModel" "wrong" "I") ∈ lw_all := lw_g (lw_at lw_m7 15 rfl) rfl
theorem q1553 : (Jvm.Cond.fieldLink "CliffHoneyModel" (370 : Nat) "CliffHoneyModel" "wrongAt" "I") ∈ lw_all := lw_g (lw_at lw_m7 16 rfl) rfl
theorem q1554 : (Jvm.Cond.fieldLink "CliffHoneyModel" (426 : Nat) "CliffHoneyModel" "faultKind" "I") ∈ lw_all := lw_g (lw_at lw_m7 17 rfl) rfl
theorem q1555 : (Jvm.Cond.fieldLink "CliffHoneyModel" (382 : Nat) "CliffHoneyModel" "depth" "I") ∈ lw_all := lw_g (lw_at lw_m7 18 rfl) rfl
theorem q1556 : (Jvm.Cond.fieldLink "CliffHoneyModel" (105 : Nat) "CliffHoneyModel" "faultPlace" "I") ∈ lw_all := lw_g (lw_at lw_m7 19 rfl) rfl
theorem q1557 : (Jvm.Cond.fieldLink "CliffHoneyModel" (453 : Nat) "CliffHoneyModel" "ladders" "I") ∈ lw_all := lw_g (lw_at lw_m7 20 rfl) rfl
theorem q1558 : (Jvm.Cond.fieldLink "CliffHoneyModel" (108 : Nat) "CliffHoneyModel" "reachOf" "[I") ∈ lw_all := lw_g (lw_at lw_m7 21 rfl) rfl
theorem q1559 : (Jvm.Cond.fieldLink "CliffHoneyModel" (111 : Nat) "CliffHoneyModel" "madeIn" "[I") ∈ lw_all := lw_g (lw_at lw_m7 22 rfl) rfl
theorem q1560 : (Jvm.Cond.fieldLink "CliffHoneyModel" (114 : Nat) "CliffHoneyModel" "some" "[I") ∈ lw_all := lw_g (lw_at lw_m7 23 rfl) rfl
theorem q1561 : (Jvm.Cond.fieldLink "CliffHoneyModel" (117 : Nat) "CliffHoneyModel" "row" "[I") ∈ lw_all := lw_g (lw_at lw_m7 24 rfl) rfl
theorem q1562 : (Jvm.Cond.fieldLink "CliffHoneyModel" (120 : Nat) "CliffHoneyModel" "next" "[I") ∈ lw_all := lw_g (lw_at lw_m7 25 rfl) rfl
theorem q1563 : (Jvm.Cond.fieldLink "CliffHoneyModel" (123 : Nat) "CliffHoneyModel" "units" "[I") ∈ lw_all := lw_g (lw_at lw_m7 26 rfl) rfl
theorem q1564 : (Jvm.Cond.fieldLink "CliffHoneyModel" (126 : Nat) "CliffHoneyModel" "minutes" "[I") ∈ lw_all := lw_g (lw_at lw_m7 27 rfl) rfl
theorem q1565 : (Jvm.Cond.fieldLink "CliffHoneyModel" (129 : Nat) "CliffHoneyModel" "stung" "[I") ∈ lw_all := lw_g (lw_at lw_m7 28 rfl) rfl
theorem q1566 : (Jvm.Cond.fieldLink "CliffHoneyModel" (132 : Nat) "CliffHoneyModel" "best" "[I") ∈ lw_all := lw_g (lw_at lw_m7 29 rfl) rfl
theorem q1567 : (Jvm.Cond.fieldLink "CliffHoneyModel" (475 : Nat) "CliffHoneyModel" "someMany" "I") ∈ lw_all := lw_g (lw_at lw_m7 30 rfl) rfl
theorem q1568 : (Jvm.Cond.fieldLink "CliffHoneyModel" (478 : Nat) "CliffHoneyModel" "bestMany" "I") ∈ lw_all := lw_g (lw_at lw_m7 31 rfl) rfl
theorem q1569 : (Jvm.Cond.fieldLink "CliffHoneyModel" (481 : Nat) "CliffHoneyModel" "bestUnits" "I") ∈ lw_all := lw_g (lw_at lw_m7 32 rfl) rfl
theorem q1570 : (Jvm.Cond.fieldLink "CliffHoneyModel" (484 : Nat) "CliffHoneyModel" "bestMinutes" "I") ∈ lw_all := lw_g (lw_at lw_m7 33 rfl) rfl
theorem q1571 : (Jvm.Cond.fieldLink "CliffHoneyModel" (487 : Nat) "CliffHoneyModel" "bestStings" "I") ∈ lw_all := lw_g (lw_at lw_m7 34 rfl) rfl
theorem q1572 : (Jvm.Cond.fieldLink "CliffHoneyModel" (500 : Nat) "CliffHoneyModel" "people" "I") ∈ lw_all := lw_g (lw_at lw_m7 35 rfl) rfl
theorem q1573 : (Jvm.Cond.fieldLink "CliffHoneyModel" (135 : Nat) "CliffHoneyModel" "right" "I") ∈ lw_all := lw_g (lw_at lw_m7 36 rfl) rfl
theorem q1574 : (Jvm.Cond.fieldLink "CliffHoneyModel" (138 : Nat) "CliffHoneyModel" "weight" "[I") ∈ lw_all := lw_g (lw_at lw_m7 37 rfl) rfl
theorem q1575 : (Jvm.Cond.fieldLink "CliffHoneyModel" (141 : Nat) "CliffHoneyModel" "heirOf" "[I") ∈ lw_all := lw_g (lw_at lw_m7 38 rfl) rfl
theorem q1576 : (Jvm.Cond.fieldLink "CliffHoneyModel" (144 : Nat) "CliffHoneyModel" "learned" "[I") ∈ lw_all := lw_g (lw_at lw_m7 39 rfl) rfl
theorem q1577 : (Jvm.Cond.fieldLink "CliffHoneyModel" (147 : Nat) "CliffHoneyModel" "money" "[I") ∈ lw_all := lw_g (lw_at lw_m7 40 rfl) rfl
theorem q1578 : (Jvm.Cond.fieldLink "CliffHoneyModel" (150 : Nat) "CliffHoneyModel" "isAlive" "[Z") ∈ lw_all := lw_g (lw_at lw_m7 41 rfl) rfl
theorem q1579 : (Jvm.Cond.fieldLink "CliffHoneyModel" (288 : Nat) "CliffHoneyModel" "lots" "I") ∈ lw_all := lw_g (lw_at lw_m7 42 rfl) rfl
theorem q1580 : (Jvm.Cond.fieldLink "CliffHoneyModel" (294 : Nat) "CliffHoneyModel" "everCut" "I") ∈ lw_all := lw_g (lw_at lw_m7 43 rfl) rfl
theorem q1581 : (Jvm.Cond.fieldLink "CliffHoneyModel" (291 : Nat) "CliffHoneyModel" "temple" "I") ∈ lw_all := lw_g (lw_at lw_m7 44 rfl) rfl
theorem q1582 : (Jvm.Cond.fieldLink "CliffHoneyModel" (153 : Nat) "CliffHoneyModel" "lotUnits" "[I") ∈ lw_all := lw_g (lw_at lw_m7 45 rfl) rfl
theorem q1583 : (Jvm.Cond.fieldLink "CliffHoneyModel" (156 : Nat) "CliffHoneyModel" "lotLow" "[I") ∈ lw_all := lw_g (lw_at lw_m7 46 rfl) rfl
theorem q1584 : (Jvm.Cond.fieldLink "CliffHoneyModel" (159 : Nat) "CliffHoneyModel" "lotHigh" "[I") ∈ lw_all := lw_g (lw_at lw_m7 47 rfl) rfl
theorem q1585 : (Jvm.Cond.fieldLink "CliffHoneyModel" (162 : Nat) "CliffHoneyModel" "lotCutter" "[I") ∈ lw_all := lw_g (lw_at lw_m7 48 rfl) rfl
theorem q1586 : (Jvm.Cond.fieldLink "CliffHoneyModel" (165 : Nat) "CliffHoneyModel" "lotRope" "[I") ∈ lw_all := lw_g (lw_at lw_m7 49 rfl) rfl
theorem q1587 : (Jvm.Cond.fieldLink "CliffHoneyModel" (168 : Nat) "CliffHoneyModel" "lotDate" "[I") ∈ lw_all := lw_g (lw_at lw_m7 50 rfl) rfl
theorem q1588 : (Jvm.Cond.fieldLink "CliffHoneyModel" (171 : Nat) "CliffHoneyModel" "lotOne" "[I") ∈ lw_all := lw_g (lw_at lw_m7 51 rfl) rfl
theorem q1589 : (Jvm.Cond.fieldLink "CliffHoneyModel" (174 : Nat) "CliffHoneyModel" "lotTwo" "[I") ∈ lw_all := lw_g (lw_at lw_m7 52 rfl) rfl
theorem q1590 : (Jvm.Cond.fieldLink "CliffHoneyModel" (177 : Nat) "CliffHoneyModel" "lotBy" "[I") ∈ lw_all := lw_g (lw_at lw_m7 53 rfl) rfl
theorem q1591 : (Jvm.Cond.fieldLink "CliffHoneyModel" (180 : Nat) "CliffHoneyModel" "lotSet" "[I") ∈ lw_all := lw_g (lw_at lw_m7 54 rfl) rfl
theorem q1592 : (Jvm.Cond.fieldLink "CliffHoneyModel" (183 : Nat) "CliffHoneyModel" "isThere" "[Z") ∈ lw_all := lw_g (lw_at lw_m7 55 rfl) rfl
theorem q1593 : (Jvm.Cond.fieldLink "CliffHoneyModel" (186 : Nat) "CliffHoneyModel" "villages" "[I") ∈ lw_all := lw_g (lw_at lw_m7 56 rfl) rfl
theorem q1594 : (Jvm.Cond.fieldLink "CliffHoneyModel" (516 : Nat) "CliffHoneyModel" "buyers" "I") ∈ lw_all := lw_g (lw_at lw_m7 57 rfl) rfl
theorem q1595 : (Jvm.Cond.fieldLink "CliffHoneyModel" (189 : Nat) "CliffHoneyModel" "buyLow" "[I") ∈ lw_all := lw_g (lw_at lw_m7 58 rfl) rfl
theorem q1596 : (Jvm.Cond.fieldLink "CliffHoneyModel" (192 : Nat) "CliffHoneyModel" "buyHigh" "[I") ∈ lw_all := lw_g (lw_at lw_m7 59 rfl) rfl
theorem q1597 : (Jvm.Cond.fieldLink "CliffHoneyModel" (195 : Nat) "CliffHoneyModel" "price" "[I") ∈ lw_all := lw_g (lw_at lw_m7 60 rfl) rfl
theorem q1598 : (Jvm.Cond.fieldLink "CliffHoneyModel" (198 : Nat) "CliffHoneyModel" "takesStill" "[I") ∈ lw_all := lw_g (lw_at lw_m7 61 rfl) rfl
theorem q1599 : (Jvm.Cond.fieldLink "CliffHoneyModel" (201 : Nat) "CliffHoneyModel" "offered" "[I") ∈ lw_all := lw_g (lw_at lw_m7 62 rfl) rfl
theorem q1600 : (Jvm.Cond.fieldLink "CliffHoneyModel" (204 : Nat) "CliffHoneyModel" "given" "[I") ∈ lw_all := lw_g (lw_at lw_m7 63 rfl) rfl
theorem q1601 : (Jvm.Cond.fieldLink "CliffHoneyModel" (207 : Nat) "CliffHoneyModel" "saleOf" "[I") ∈ lw_all := lw_g (lw_at lw_m7 64 rfl) rfl
theorem q1602 : (Jvm.Cond.fieldLink "CliffHoneyModel" (210 : Nat) "CliffHoneyModel" "placed" "[I") ∈ lw_all := lw_g (lw_at lw_m7 65 rfl) rfl
theorem q1603 : (Jvm.Cond.fieldLink "CliffHoneyModel" (519 : Nat) "CliffHoneyModel" "offeredMany" "I") ∈ lw_all := lw_g (lw_at lw_m7 66 rfl) rfl
theorem q1604 : (Jvm.Cond.fieldLink "CliffHoneyModel" (522 : Nat) "CliffHoneyModel" "saleMoney" "I") ∈ lw_all := lw_g (lw_at lw_m7 67 rfl) rfl
theorem q1605 : (Jvm.Cond.fieldLink "CliffHoneyModel" (528 : Nat) "CliffHoneyModel" "saleMany" "I") ∈ lw_all := lw_g (lw_at lw_m7 68 rfl) rfl
theorem q1606 : (Jvm.Cond.fieldLink "CliffHoneyModel" (543 : Nat) "CliffHoneyModel" "claims" "I") ∈ lw_all := lw_g (lw_at lw_m7 69 rfl) rfl
theorem q1607 : (Jvm.Cond.fieldLink "CliffHoneyModel" (213 : Nat) "CliffHoneyModel" "claimLedge" "[I") ∈ lw_all := lw_g (lw_at lw_m7 70 rfl) rfl
theorem q1608 : (Jvm.Cond.fieldLink "CliffHoneyModel" (216 : Nat) "CliffHoneyModel" "claimBy" "[I") ∈ lw_all := lw_g (lw_at lw_m7 71 rfl) rfl
theorem q1609 : (Jvm.Cond.fieldLink "CliffHoneyModel" (219 : Nat) "CliffHoneyModel" "claimFrom" "[I") ∈ lw_all := lw_g (lw_at lw_m7 72 rfl) rfl
theorem q1610 : (Jvm.Cond.fieldLink "CliffHoneyModel" (222 : Nat) "CliffHoneyModel" "claimTold" "[I") ∈ lw_all := lw_g (lw_at lw_m7 73 rfl) rfl
theorem q1611 : (Jvm.Cond.fieldLink "CliffHoneyModel" (225 : Nat) "CliffHoneyModel" "had" "[I") ∈ lw_all := lw_g (lw_at lw_m7 74 rfl) rfl
theorem q1612 : (Jvm.Cond.fieldLink "CliffHoneyModel" (228 : Nat) "CliffHoneyModel" "hadCut" "[Z") ∈ lw_all := lw_g (lw_at lw_m7 75 rfl) rfl
theorem q1613 : (Jvm.Cond.fieldLink "CliffHoneyModel" (231 : Nat) "CliffHoneyModel" "hadSprayed" "[Z") ∈ lw_all := lw_g (lw_at lw_m7 76 rfl) rfl
theorem q1614 : (Jvm.Cond.lays "CliffHoneyModel" "CliffHoneyModel" "date" "I") ∈ lw_all := lw_g (lw_at lw_m7 77 rfl) rfl
theorem q1615 : (Jvm.Cond.soleField "CliffHoneyModel" "date") ∈ lw_all := lw_g (lw_at lw_m7 78 rfl) rfl
theorem q1616 : (Jvm.Cond.lays "CliffHoneyModel" "CliffHoneyModel" "wind" "I") ∈ lw_all := lw_g (lw_at lw_m7 79 rfl) rfl
theorem q1617 : (Jvm.Cond.soleField "CliffHoneyModel" "wind") ∈ lw_all := lw_g (lw_at lw_m7 80 rfl) rfl
theorem q1618 : (Jvm.Cond.lays "CliffHoneyModel" "CliffHoneyModel" "sun" "I") ∈ lw_all := lw_g (lw_at lw_m7 81 rfl) rfl
theorem q1619 : (Jvm.Cond.soleField "CliffHoneyModel" "sun") ∈ lw_all := lw_g (lw_at lw_m7 82 rfl) rfl
theorem q1620 : (Jvm.Cond.lays "CliffHoneyModel" "CliffHoneyModel" "stings" "I") ∈ lw_all := lw_g (lw_at lw_m7 83 rfl) rfl
theorem q1621 : (Jvm.Cond.soleField "CliffHoneyModel" "stings") ∈ lw_all := lw_g (lw_at lw_m7 84 rfl) rfl
theorem q1622 : (Jvm.Cond.laysFinal "CliffHoneyModel" "CliffHoneyModel" "give" "[I") ∈ lw_all := lw_g (lw_at lw_m7 85 rfl) rfl
theorem q1623 : (Jvm.Cond.soleField "CliffHoneyModel" "give") ∈ lw_all := lw_g (lw_at lw_m7 86 rfl) rfl
theorem q1624 : (Jvm.Cond.laysFinal "CliffHoneyModel" "CliffHoneyModel" "mad" "[I") ∈ lw_all := lw_g (lw_at lw_m7 87 rfl) rfl
theorem q1625 : (Jvm.Cond.soleField "CliffHoneyModel" "mad") ∈ lw_all := lw_g (lw_at lw_m7 88 rfl) rfl
theorem q1626 : (Jvm.Cond.lays "CliffHoneyModel" "CliffHoneyModel" "ledges" "I") ∈ lw_all := lw_g (lw_at lw_m7 89 rfl) rfl
theorem q1627 : (Jvm.Cond.soleField "CliffHoneyModel" "ledges") ∈ lw_all := lw_g (lw_at lw_m7 90 rfl) rfl
theorem q1628 : (Jvm.Cond.laysFinal "CliffHoneyModel" "CliffHoneyModel" "column" "[I") ∈ lw_all := lw_g (lw_at lw_m7 91 rfl) rfl
theorem q1629 : (Jvm.Cond.soleField "CliffHoneyModel" "column") ∈ lw_all := lw_g (lw_at lw_m7 92 rfl) rfl
theorem q1630 : (Jvm.Cond.laysFinal "CliffHoneyModel" "CliffHoneyModel" "height" "[I") ∈ lw_all := lw_g (lw_at lw_m7 93 rfl) rfl
theorem q1631 : (Jvm.Cond.soleField "CliffHoneyModel" "height") ∈ lw_all := lw_g (lw_at lw_m7 94 rfl) rfl
theorem q1632 : (Jvm.Cond.laysFinal "CliffHoneyModel" "CliffHoneyModel" "strength" "[I") ∈ lw_all := lw_g (lw_at lw_m7 95 rfl) rfl
theorem q1633 : (Jvm.Cond.soleField "CliffHoneyModel" "strength") ∈ lw_all := lw_g (lw_at lw_m7 96 rfl) rfl
theorem q1634 : (Jvm.Cond.laysFinal "CliffHoneyModel" "CliffHoneyModel" "comb" "[I") ∈ lw_all := lw_g (lw_at lw_m7 97 rfl) rfl
theorem q1635 : (Jvm.Cond.soleField "CliffHoneyModel" "comb") ∈ lw_all := lw_g (lw_at lw_m7 98 rfl) rfl
theorem q1636 : (Jvm.Cond.laysFinal "CliffHoneyModel" "CliffHoneyModel" "madness" "[I") ∈ lw_all := lw_g (lw_at lw_m7 99 rfl) rfl
theorem q1637 : (Jvm.Cond.soleField "CliffHoneyModel" "madness") ∈ lw_all := lw_g (lw_at lw_m7 100 rfl) rfl
theorem q1638 : (Jvm.Cond.laysFinal "CliffHoneyModel" "CliffHoneyModel" "kept" "[I") ∈ lw_all := lw_g (lw_at lw_m7 101 rfl) rfl
theorem q1639 : (Jvm.Cond.soleField "CliffHoneyModel" "kept") ∈ lw_all := lw_g (lw_at lw_m7 102 rfl) rfl
theorem q1640 : (Jvm.Cond.laysFinal "CliffHoneyModel" "CliffHoneyModel" "finder" "[I") ∈ lw_all := lw_g (lw_at lw_m7 103 rfl) rfl
theorem q1641 : (Jvm.Cond.soleField "CliffHoneyModel" "finder") ∈ lw_all := lw_g (lw_at lw_m7 104 rfl) rfl
theorem q1642 : (Jvm.Cond.laysFinal "CliffHoneyModel" "CliffHoneyModel" "guessLow" "[I") ∈ lw_all := lw_g (lw_at lw_m7 105 rfl) rfl
theorem q1643 : (Jvm.Cond.soleField "CliffHoneyModel" "guessLow") ∈ lw_all := lw_g (lw_at lw_m7 106 rfl) rfl
theorem q1644 : (Jvm.Cond.laysFinal "CliffHoneyModel" "CliffHoneyModel" "guessHigh" "[I") ∈ lw_all := lw_g (lw_at lw_m7 107 rfl) rfl
theorem q1645 : (Jvm.Cond.soleField "CliffHoneyModel" "guessHigh") ∈ lw_all := lw_g (lw_at lw_m7 108 rfl) rfl
theorem q1646 : (Jvm.Cond.laysFinal "CliffHoneyModel" "CliffHoneyModel" "isCut" "[Z") ∈ lw_all := lw_g (lw_at lw_m7 109 rfl) rfl
theorem q1647 : (Jvm.Cond.soleField "CliffHoneyModel" "isCut") ∈ lw_all := lw_g (lw_at lw_m7 110 rfl) rfl
theorem q1648 : (Jvm.Cond.laysFinal "CliffHoneyModel" "CliffHoneyModel" "isSprayed" "[Z") ∈ lw_all := lw_g (lw_at lw_m7 111 rfl) rfl
theorem q1649 : (Jvm.Cond.soleField "CliffHoneyModel" "isSprayed") ∈ lw_all := lw_g (lw_at lw_m7 112 rfl) rfl
theorem q1650 : (Jvm.Cond.laysFinal "CliffHoneyModel" "CliffHoneyModel" "many" "[I") ∈ lw_all := lw_g (lw_at lw_m7 113 rfl) rfl
theorem q1651 : (Jvm.Cond.soleField "CliffHoneyModel" "many") ∈ lw_all := lw_g (lw_at lw_m7 114 rfl) rfl
theorem q1652 : (Jvm.Cond.laysFinal "CliffHoneyModel" "CliffHoneyModel" "learn" "[I") ∈ lw_all := lw_g (lw_at lw_m7 115 rfl) rfl
theorem q1653 : (Jvm.Cond.soleField "CliffHoneyModel" "learn") ∈ lw_all := lw_g (lw_at lw_m7 116 rfl) rfl
theorem q1654 : (Jvm.Cond.laysFinal "CliffHoneyModel" "CliffHoneyModel" "old" "[I") ∈ lw_all := lw_g (lw_at lw_m7 117 rfl) rfl
theorem q1655 : (Jvm.Cond.soleField "CliffHoneyModel" "old") ∈ lw_all := lw_g (lw_at lw_m7 118 rfl) rfl
theorem q1656 : (Jvm.Cond.laysFinal "CliffHoneyModel" "CliffHoneyModel" "shares" "[I") ∈ lw_all := lw_g (lw_at lw_m7 119 rfl) rfl
theorem q1657 : (Jvm.Cond.soleField "CliffHoneyModel" "shares") ∈ lw_all := lw_g (lw_at lw_m7 120 rfl) rfl
theorem q1658 : (Jvm.Cond.laysFinal "CliffHoneyModel" "CliffHoneyModel" "sort" "[I") ∈ lw_all := lw_g (lw_at lw_m7 121 rfl) rfl
theorem q1659 : (Jvm.Cond.soleField "CliffHoneyModel" "sort") ∈ lw_all := lw_g (lw_at lw_m7 122 rfl) rfl
theorem q1660 : (Jvm.Cond.laysFinal "CliffHoneyModel" "CliffHoneyModel" "from" "[I") ∈ lw_all := lw_g (lw_at lw_m7 123 rfl) rfl
theorem q1661 : (Jvm.Cond.soleField "CliffHoneyModel" "from") ∈ lw_all := lw_g (lw_at lw_m7 124 rfl) rfl
theorem q1662 : (Jvm.Cond.laysFinal "CliffHoneyModel" "CliffHoneyModel" "when" "[I") ∈ lw_all := lw_g (lw_at lw_m7 125 rfl) rfl
theorem q1663 : (Jvm.Cond.soleField "CliffHoneyModel" "when") ∈ lw_all := lw_g (lw_at lw_m7 126 rfl) rfl
theorem q1664 : (Jvm.Cond.laysFinal "CliffHoneyModel" "CliffHoneyModel" "step" "[I") ∈ lw_all := lw_g (lw_at lw_m7 127 rfl) rfl
theorem q1665 : (Jvm.Cond.soleField "CliffHoneyModel" "step") ∈ lw_all := lw_g (lw_at lw_m7 128 rfl) rfl
theorem q1666 : (Jvm.Cond.laysFinal "CliffHoneyModel" "CliffHoneyModel" "freshSort" "[I") ∈ lw_all := lw_g (lw_at lw_m7 129 rfl) rfl
theorem q1667 : (Jvm.Cond.soleField "CliffHoneyModel" "freshSort") ∈ lw_all := lw_g (lw_at lw_m7 130 rfl) rfl
theorem q1668 : (Jvm.Cond.laysFinal "CliffHoneyModel" "CliffHoneyModel" "freshFrom" "[I") ∈ lw_all := lw_g (lw_at lw_m7 131 rfl) rfl
theorem q1669 : (Jvm.Cond.soleField "CliffHoneyModel" "freshFrom") ∈ lw_all := lw_g (lw_at lw_m7 132 rfl) rfl
theorem q1670 : (Jvm.Cond.laysFinal "CliffHoneyModel" "CliffHoneyModel" "freshWhen" "[I") ∈ lw_all := lw_g (lw_at lw_m7 133 rfl) rfl
theorem q1671 : (Jvm.Cond.soleField "CliffHoneyModel" "freshWhen") ∈ lw_all := lw_g (lw_at lw_m7 134 rfl) rfl
theorem q1672 : (Jvm.Cond.laysFinal "CliffHoneyModel" "CliffHoneyModel" "freshWho" "[I") ∈ lw_all := lw_g (lw_at lw_m7 135 rfl) rfl
theorem q1673 : (Jvm.Cond.soleField "CliffHoneyModel" "freshWho") ∈ lw_all := lw_g (lw_at lw_m7 136 rfl) rfl
theorem q1674 : (Jvm.Cond.laysFinal "CliffHoneyModel" "CliffHoneyModel" "freshNumber" "[I") ∈ lw_all := lw_g (lw_at lw_m7 137 rfl) rfl
theorem q1675 : (Jvm.Cond.soleField "CliffHoneyModel" "freshNumber") ∈ lw_all := lw_g (lw_at lw_m7 138 rfl) rfl
theorem q1676 : (Jvm.Cond.laysFinal "CliffHoneyModel" "CliffHoneyModel" "fresh" "[I") ∈ lw_all := lw_g (lw_at lw_m7 139 rfl) rfl
theorem q1677 : (Jvm.Cond.soleField "CliffHoneyModel" "fresh") ∈ lw_all := lw_g (lw_at lw_m7 140 rfl) rfl
theorem q1678 : (Jvm.Cond.laysFinal "CliffHoneyModel" "CliffHoneyModel" "tape" "[I") ∈ lw_all := lw_g (lw_at lw_m7 141 rfl) rfl
theorem q1679 : (Jvm.Cond.soleField "CliffHoneyModel" "tape") ∈ lw_all := lw_g (lw_at lw_m7 142 rfl) rfl
theorem q1680 : (Jvm.Cond.laysFinal "CliffHoneyModel" "CliffHoneyModel" "pile" "[I") ∈ lw_all := lw_g (lw_at lw_m7 143 rfl) rfl
theorem q1681 : (Jvm.Cond.soleField "CliffHoneyModel" "pile") ∈ lw_all := lw_g (lw_at lw_m7 144 rfl) rfl
theorem q1682 : (Jvm.Cond.lays "CliffHoneyModel" "CliffHoneyModel" "freshLines" "I") ∈ lw_all := lw_g (lw_at lw_m7 145 rfl) rfl
theorem q1683 : (Jvm.Cond.soleField "CliffHoneyModel" "freshLines") ∈ lw_all := lw_g (lw_at lw_m7 146 rfl) rfl
theorem q1684 : (Jvm.Cond.lays "CliffHoneyModel" "CliffHoneyModel" "freshSteps" "I") ∈ lw_all := lw_g (lw_at lw_m7 147 rfl) rfl
theorem q1685 : (Jvm.Cond.soleField "CliffHoneyModel" "freshSteps") ∈ lw_all := lw_g (lw_at lw_m7 148 rfl) rfl
theorem q1686 : (Jvm.Cond.lays "CliffHoneyModel" "CliffHoneyModel" "taped" "I") ∈ lw_all := lw_g (lw_at lw_m7 149 rfl) rfl
theorem q1687 : (Jvm.Cond.soleField "CliffHoneyModel" "taped") ∈ lw_all := lw_g (lw_at lw_m7 150 rfl) rfl
theorem q1688 : (Jvm.Cond.lays "CliffHoneyModel" "CliffHoneyModel" "at" "I") ∈ lw_all := lw_g (lw_at lw_m7 151 rfl) rfl
theorem q1689 : (Jvm.Cond.soleField "CliffHoneyModel" "at") ∈ lw_all := lw_g (lw_at lw_m7 152 rfl) rfl
theorem q1690 : (Jvm.Cond.lays "CliffHoneyModel" "CliffHoneyModel" "token" "I") ∈ lw_all := lw_g (lw_at lw_m7 153 rfl) rfl
theorem q1691 : (Jvm.Cond.soleField "CliffHoneyModel" "token") ∈ lw_all := lw_g (lw_at lw_m7 154 rfl) rfl
theorem q1692 : (Jvm.Cond.lays "CliffHoneyModel" "CliffHoneyModel" "tokenAt" "I") ∈ lw_all := lw_g (lw_at lw_m7 155 rfl) rfl
theorem q1693 : (Jvm.Cond.soleField "CliffHoneyModel" "tokenAt") ∈ lw_all := lw_g (lw_at lw_m7 156 rfl) rfl
theorem q1694 : (Jvm.Cond.lays "CliffHoneyModel" "CliffHoneyModel" "value" "I") ∈ lw_all := lw_g (lw_at lw_m7 157 rfl) rfl
theorem q1695 : (Jvm.Cond.soleField "CliffHoneyModel" "value") ∈ lw_all := lw_g (lw_at lw_m7 158 rfl) rfl
theorem q1696 : (Jvm.Cond.lays "CliffHoneyModel" "CliffHoneyModel" "wrong" "I") ∈ lw_all := lw_g (lw_at lw_m7 159 rfl) rfl
theorem q1697 : (Jvm.Cond.soleField "CliffHoneyModel" "wrong") ∈ lw_all := lw_g (lw_at lw_m7 160 rfl) rfl
theorem q1698 : (Jvm.Cond.lays "CliffHoneyModel" "CliffHoneyModel" "wrongAt" "I") ∈ lw_all := lw_g (lw_at lw_m7 161 rfl) rfl
theorem q1699 : (Jvm.Cond.soleField "CliffHoneyModel" "wrongAt") ∈ lw_all := lw_g (lw_at lw_m7 162 rfl) rfl
theorem q1700 : (Jvm.Cond.lays "CliffHoneyModel" "CliffHoneyModel" "faultKind" "I") ∈ lw_all := lw_g (lw_at lw_m7 163 rfl) rfl
theorem q1701 : (Jvm.Cond.soleField "CliffHoneyModel" "faultKind") ∈ lw_all := lw_g (lw_at lw_m7 164 rfl) rfl
theorem q1702 : (Jvm.Cond.lays "CliffHoneyModel" "CliffHoneyModel" "depth" "I") ∈ lw_all := lw_g (lw_at lw_m7 165 rfl) rfl
theorem q1703 : (Jvm.Cond.soleField "CliffHoneyModel" "depth") ∈ lw_all := lw_g (lw_at lw_m7 166 rfl) rfl
theorem q1704 : (Jvm.Cond.lays "CliffHoneyModel" "CliffHoneyModel" "faultPlace" "I") ∈ lw_all := lw_g (lw_at lw_m7 167 rfl) rfl
theorem q1705 : (Jvm.Cond.soleField "CliffHoneyModel" "faultPlace") ∈ lw_all := lw_g (lw_at lw_m7 168 rfl) rfl
theorem q1706 : (Jvm.Cond.lays "CliffHoneyModel" "CliffHoneyModel" "ladders" "I") ∈ lw_all := lw_g (lw_at lw_m7 169 rfl) rfl
theorem q1707 : (Jvm.Cond.soleField "CliffHoneyModel" "ladders") ∈ lw_all := lw_g (lw_at lw_m7 170 rfl) rfl
theorem q1708 : (Jvm.Cond.laysFinal "CliffHoneyModel" "CliffHoneyModel" "reachOf" "[I") ∈ lw_all := lw_g (lw_at lw_m7 171 rfl) rfl
theorem q1709 : (Jvm.Cond.soleField "CliffHoneyModel" "reachOf") ∈ lw_all := lw_g (lw_at lw_m7 172 rfl) rfl
theorem q1710 : (Jvm.Cond.laysFinal "CliffHoneyModel" "CliffHoneyModel" "madeIn" "[I") ∈ lw_all := lw_g (lw_at lw_m7 173 rfl) rfl
theorem q1711 : (Jvm.Cond.soleField "CliffHoneyModel" "madeIn") ∈ lw_all := lw_g (lw_at lw_m7 174 rfl) rfl
theorem q1712 : (Jvm.Cond.laysFinal "CliffHoneyModel" "CliffHoneyModel" "some" "[I") ∈ lw_all := lw_g (lw_at lw_m7 175 rfl) rfl
theorem q1713 : (Jvm.Cond.soleField "CliffHoneyModel" "some") ∈ lw_all := lw_g (lw_at lw_m7 176 rfl) rfl
theorem q1714 : (Jvm.Cond.laysFinal "CliffHoneyModel" "CliffHoneyModel" "row" "[I") ∈ lw_all := lw_g (lw_at lw_m7 177 rfl) rfl
theorem q1715 : (Jvm.Cond.soleField "CliffHoneyModel" "row") ∈ lw_all := lw_g (lw_at lw_m7 178 rfl) rfl
theorem q1716 : (Jvm.Cond.laysFinal "CliffHoneyModel" "CliffHoneyModel" "next" "[I") ∈ lw_all := lw_g (lw_at lw_m7 179 rfl) rfl
theorem q1717 : (Jvm.Cond.soleField "CliffHoneyModel" "next") ∈ lw_all := lw_g (lw_at lw_m7 180 rfl) rfl
theorem q1718 : (Jvm.Cond.laysFinal "CliffHoneyModel" "CliffHoneyModel" "units" "[I") ∈ lw_all := lw_g (lw_at lw_m7 181 rfl) rfl
theorem q1719 : (Jvm.Cond.soleField "CliffHoneyModel" "units") ∈ lw_all := lw_g (lw_at lw_m7 182 rfl) rfl
theorem q1720 : (Jvm.Cond.laysFinal "CliffHoneyModel" "CliffHoneyModel" "minutes" "[I") ∈ lw_all := lw_g (lw_at lw_m7 183 rfl) rfl
theorem q1721 : (Jvm.Cond.soleField "CliffHoneyModel" "minutes") ∈ lw_all := lw_g (lw_at lw_m7 184 rfl) rfl
theorem q1722 : (Jvm.Cond.laysFinal "CliffHoneyModel" "CliffHoneyModel" "stung" "[I") ∈ lw_all := lw_g (lw_at lw_m7 185 rfl) rfl
theorem q1723 : (Jvm.Cond.soleField "CliffHoneyModel" "stung") ∈ lw_all := lw_g (lw_at lw_m7 186 rfl) rfl
theorem q1724 : (Jvm.Cond.laysFinal "CliffHoneyModel" "CliffHoneyModel" "best" "[I") ∈ lw_all := lw_g (lw_at lw_m7 187 rfl) rfl
theorem q1725 : (Jvm.Cond.soleField "CliffHoneyModel" "best") ∈ lw_all := lw_g (lw_at lw_m7 188 rfl) rfl
theorem q1726 : (Jvm.Cond.lays "CliffHoneyModel" "CliffHoneyModel" "someMany" "I") ∈ lw_all := lw_g (lw_at lw_m7 189 rfl) rfl
theorem q1727 : (Jvm.Cond.soleField "CliffHoneyModel" "someMany") ∈ lw_all := lw_g (lw_at lw_m7 190 rfl) rfl
theorem q1728 : (Jvm.Cond.lays "CliffHoneyModel" "CliffHoneyModel" "bestMany" "I") ∈ lw_all := lw_g (lw_at lw_m7 191 rfl) rfl
theorem q1729 : (Jvm.Cond.soleField "CliffHoneyModel" "bestMany") ∈ lw_all := lw_g (lw_at lw_m7 192 rfl) rfl
theorem q1730 : (Jvm.Cond.lays "CliffHoneyModel" "CliffHoneyModel" "bestUnits" "I") ∈ lw_all := lw_g (lw_at lw_m7 193 rfl) rfl
theorem q1731 : (Jvm.Cond.soleField "CliffHoneyModel" "bestUnits") ∈ lw_all := lw_g (lw_at lw_m7 194 rfl) rfl
theorem q1732 : (Jvm.Cond.lays "CliffHoneyModel" "CliffHoneyModel" "bestMinutes" "I") ∈ lw_all := lw_g (lw_at lw_m7 195 rfl) rfl
theorem q1733 : (Jvm.Cond.soleField "CliffHoneyModel" "bestMinutes") ∈ lw_all := lw_g (lw_at lw_m7 196 rfl) rfl
theorem q1734 : (Jvm.Cond.lays "CliffHoneyModel" "CliffHoneyModel" "bestStings" "I") ∈ lw_all := lw_g (lw_at lw_m7 197 rfl) rfl
theorem q1735 : (Jvm.Cond.soleField "CliffHoneyModel" "bestStings") ∈ lw_all := lw_g (lw_at lw_m7 198 rfl) rfl
theorem q1736 : (Jvm.Cond.lays "CliffHoneyModel" "CliffHoneyModel" "people" "I") ∈ lw_all := lw_g (lw_at lw_m7 199 rfl) rfl
theorem q1737 : (Jvm.Cond.soleField "CliffHoneyModel" "people") ∈ lw_all := lw_g (lw_at lw_m7 200 rfl) rfl
theorem q1738 : (Jvm.Cond.lays "CliffHoneyModel" "CliffHoneyModel" "right" "I") ∈ lw_all := lw_g (lw_at lw_m7 201 rfl) rfl
theorem q1739 : (Jvm.Cond.soleField "CliffHoneyModel" "right") ∈ lw_all := lw_g (lw_at lw_m7 202 rfl) rfl
theorem q1740 : (Jvm.Cond.laysFinal "CliffHoneyModel" "CliffHoneyModel" "weight" "[I") ∈ lw_all := lw_g (lw_at lw_m7 203 rfl) rfl
theorem q1741 : (Jvm.Cond.soleField "CliffHoneyModel" "weight") ∈ lw_all := lw_g (lw_at lw_m7 204 rfl) rfl
theorem q1742 : (Jvm.Cond.laysFinal "CliffHoneyModel" "CliffHoneyModel" "heirOf" "[I") ∈ lw_all := lw_g (lw_at lw_m7 205 rfl) rfl
theorem q1743 : (Jvm.Cond.soleField "CliffHoneyModel" "heirOf") ∈ lw_all := lw_g (lw_at lw_m7 206 rfl) rfl
theorem q1744 : (Jvm.Cond.laysFinal "CliffHoneyModel" "CliffHoneyModel" "learned" "[I") ∈ lw_all := lw_g (lw_at lw_m7 207 rfl) rfl
theorem q1745 : (Jvm.Cond.soleField "CliffHoneyModel" "learned") ∈ lw_all := lw_g (lw_at lw_m7 208 rfl) rfl
theorem q1746 : (Jvm.Cond.laysFinal "CliffHoneyModel" "CliffHoneyModel" "money" "[I") ∈ lw_all := lw_g (lw_at lw_m7 209 rfl) rfl
theorem q1747 : (Jvm.Cond.soleField "CliffHoneyModel" "money") ∈ lw_all := lw_g (lw_at lw_m7 210 rfl) rfl
theorem q1748 : (Jvm.Cond.laysFinal "CliffHoneyModel" "CliffHoneyModel" "isAlive" "[Z") ∈ lw_all := lw_g (lw_at lw_m7 211 rfl) rfl
theorem q1749 : (Jvm.Cond.soleField "CliffHoneyModel" "isAlive") ∈ lw_all := lw_g (lw_at lw_m7 212 rfl) rfl
theorem q1750 : (Jvm.Cond.lays "CliffHoneyModel" "CliffHoneyModel" "lots" "I") ∈ lw_all := lw_g (lw_at lw_m7 213 rfl) rfl
theorem q1751 : (Jvm.Cond.soleField "CliffHoneyModel" "lots") ∈ lw_all := lw_g (lw_at lw_m7 214 rfl) rfl
theorem q1752 : (Jvm.Cond.lays "CliffHoneyModel" "CliffHoneyModel" "everCut" "I") ∈ lw_all := lw_g (lw_at lw_m7 215 rfl) rfl
theorem q1753 : (Jvm.Cond.soleField "CliffHoneyModel" "everCut") ∈ lw_all := lw_g (lw_at lw_m7 216 rfl) rfl
theorem q1754 : (Jvm.Cond.lays "CliffHoneyModel" "CliffHoneyModel" "temple" "I") ∈ lw_all := lw_g (lw_at lw_m7 217 rfl) rfl
theorem q1755 : (Jvm.Cond.soleField "CliffHoneyModel" "temple") ∈ lw_all := lw_g (lw_at lw_m7 218 rfl) rfl
theorem q1756 : (Jvm.Cond.laysFinal "CliffHoneyModel" "CliffHoneyModel" "lotUnits" "[I") ∈ lw_all := lw_g (lw_at lw_m7 219 rfl) rfl
theorem q1757 : (Jvm.Cond.soleField "CliffHoneyModel" "lotUnits") ∈ lw_all := lw_g (lw_at lw_m7 220 rfl) rfl
theorem q1758 : (Jvm.Cond.laysFinal "CliffHoneyModel" "CliffHoneyModel" "lotLow" "[I") ∈ lw_all := lw_g (lw_at lw_m7 221 rfl) rfl
theorem q1759 : (Jvm.Cond.soleField "CliffHoneyModel" "lotLow") ∈ lw_all := lw_g (lw_at lw_m7 222 rfl) rfl
theorem q1760 : (Jvm.Cond.laysFinal "CliffHoneyModel" "CliffHoneyModel" "lotHigh" "[I") ∈ lw_all := lw_g (lw_at lw_m7 223 rfl) rfl
theorem q1761 : (Jvm.Cond.soleField "CliffHoneyModel" "lotHigh") ∈ lw_all := lw_g (lw_at lw_m7 224 rfl) rfl
theorem q1762 : (Jvm.Cond.laysFinal "CliffHoneyModel" "CliffHoneyModel" "lotCutter" "[I") ∈ lw_all := lw_g (lw_at lw_m7 225 rfl) rfl
theorem q1763 : (Jvm.Cond.soleField "CliffHoneyModel" "lotCutter") ∈ lw_all := lw_g (lw_at lw_m7 226 rfl) rfl
theorem q1764 : (Jvm.Cond.laysFinal "CliffHoneyModel" "CliffHoneyModel" "lotRope" "[I") ∈ lw_all := lw_g (lw_at lw_m7 227 rfl) rfl
theorem q1765 : (Jvm.Cond.soleField "CliffHoneyModel" "lotRope") ∈ lw_all := lw_g (lw_at lw_m7 228 rfl) rfl
theorem q1766 : (Jvm.Cond.laysFinal "CliffHoneyModel" "CliffHoneyModel" "lotDate" "[I") ∈ lw_all := lw_g (lw_at lw_m7 229 rfl) rfl
theorem q1767 : (Jvm.Cond.soleField "CliffHoneyModel" "lotDate") ∈ lw_all := lw_g (lw_at lw_m7 230 rfl) rfl
theorem q1768 : (Jvm.Cond.laysFinal "CliffHoneyModel" "CliffHoneyModel" "lotOne" "[I") ∈ lw_all := lw_g (lw_at lw_m7 231 rfl) rfl
theorem q1769 : (Jvm.Cond.soleField "CliffHoneyModel" "lotOne") ∈ lw_all := lw_g (lw_at lw_m7 232 rfl) rfl
theorem q1770 : (Jvm.Cond.laysFinal "CliffHoneyModel" "CliffHoneyModel" "lotTwo" "[I") ∈ lw_all := lw_g (lw_at lw_m7 233 rfl) rfl
theorem q1771 : (Jvm.Cond.soleField "CliffHoneyModel" "lotTwo") ∈ lw_all := lw_g (lw_at lw_m7 234 rfl) rfl
theorem q1772 : (Jvm.Cond.laysFinal "CliffHoneyModel" "CliffHoneyModel" "lotBy" "[I") ∈ lw_all := lw_g (lw_at lw_m7 235 rfl) rfl
theorem q1773 : (Jvm.Cond.soleField "CliffHoneyModel" "lotBy") ∈ lw_all := lw_g (lw_at lw_m7 236 rfl) rfl
theorem q1774 : (Jvm.Cond.laysFinal "CliffHoneyModel" "CliffHoneyModel" "lotSet" "[I") ∈ lw_all := lw_g (lw_at lw_m7 237 rfl) rfl
theorem q1775 : (Jvm.Cond.soleField "CliffHoneyModel" "lotSet") ∈ lw_all := lw_g (lw_at lw_m7 238 rfl) rfl
theorem q1776 : (Jvm.Cond.laysFinal "CliffHoneyModel" "CliffHoneyModel" "isThere" "[Z") ∈ lw_all := lw_g (lw_at lw_m7 239 rfl) rfl
theorem q1777 : (Jvm.Cond.soleField "CliffHoneyModel" "isThere") ∈ lw_all := lw_g (lw_at lw_m8 0 rfl) rfl
theorem q1778 : (Jvm.Cond.laysFinal "CliffHoneyModel" "CliffHoneyModel" "villages" "[I") ∈ lw_all := lw_g (lw_at lw_m8 1 rfl) rfl
theorem q1779 : (Jvm.Cond.soleField "CliffHoneyModel" "villages") ∈ lw_all := lw_g (lw_at lw_m8 2 rfl) rfl
theorem q1780 : (Jvm.Cond.lays "CliffHoneyModel" "CliffHoneyModel" "buyers" "I") ∈ lw_all := lw_g (lw_at lw_m8 3 rfl) rfl
theorem q1781 : (Jvm.Cond.soleField "CliffHoneyModel" "buyers") ∈ lw_all := lw_g (lw_at lw_m8 4 rfl) rfl
theorem q1782 : (Jvm.Cond.laysFinal "CliffHoneyModel" "CliffHoneyModel" "buyLow" "[I") ∈ lw_all := lw_g (lw_at lw_m8 5 rfl) rfl
theorem q1783 : (Jvm.Cond.soleField "CliffHoneyModel" "buyLow") ∈ lw_all := lw_g (lw_at lw_m8 6 rfl) rfl
theorem q1784 : (Jvm.Cond.laysFinal "CliffHoneyModel" "CliffHoneyModel" "buyHigh" "[I") ∈ lw_all := lw_g (lw_at lw_m8 7 rfl) rfl
theorem q1785 : (Jvm.Cond.soleField "CliffHoneyModel" "buyHigh") ∈ lw_all := lw_g (lw_at lw_m8 8 rfl) rfl
theorem q1786 : (Jvm.Cond.laysFinal "CliffHoneyModel" "CliffHoneyModel" "price" "[I") ∈ lw_all := lw_g (lw_at lw_m8 9 rfl) rfl
theorem q1787 : (Jvm.Cond.soleField "CliffHoneyModel" "price") ∈ lw_all := lw_g (lw_at lw_m8 10 rfl) rfl
theorem q1788 : (Jvm.Cond.laysFinal "CliffHoneyModel" "CliffHoneyModel" "takesStill" "[I") ∈ lw_all := lw_g (lw_at lw_m8 11 rfl) rfl
theorem q1789 : (Jvm.Cond.soleField "CliffHoneyModel" "takesStill") ∈ lw_all := lw_g (lw_at lw_m8 12 rfl) rfl
theorem q1790 : (Jvm.Cond.laysFinal "CliffHoneyModel" "CliffHoneyModel" "offered" "[I") ∈ lw_all := lw_g (lw_at lw_m8 13 rfl) rfl
theorem q1791 : (Jvm.Cond.soleField "CliffHoneyModel" "offered") ∈ lw_all := lw_g (lw_at lw_m8 14 rfl) rfl
theorem q1792 : (Jvm.Cond.laysFinal "CliffHoneyModel" "CliffHoneyModel" "given" "[I") ∈ lw_all := lw_g (lw_at lw_m8 15 rfl) rfl
theorem q1793 : (Jvm.Cond.soleField "CliffHoneyModel" "given") ∈ lw_all := lw_g (lw_at lw_m8 16 rfl) rfl
theorem q1794 : (Jvm.Cond.laysFinal "CliffHoneyModel" "CliffHoneyModel" "saleOf" "[I") ∈ lw_all := lw_g (lw_at lw_m8 17 rfl) rfl
theorem q1795 : (Jvm.Cond.soleField "CliffHoneyModel" "saleOf") ∈ lw_all := lw_g (lw_at lw_m8 18 rfl) rfl
theorem q1796 : (Jvm.Cond.laysFinal "CliffHoneyModel" "CliffHoneyModel" "placed" "[I") ∈ lw_all := lw_g (lw_at lw_m8 19 rfl) rfl
theorem q1797 : (Jvm.Cond.soleField "CliffHoneyModel" "placed") ∈ lw_all := lw_g (lw_at lw_m8 20 rfl) rfl
theorem q1798 : (Jvm.Cond.lays "CliffHoneyModel" "CliffHoneyModel" "offeredMany" "I") ∈ lw_all := lw_g (lw_at lw_m8 21 rfl) rfl
theorem q1799 : (Jvm.Cond.soleField "CliffHoneyModel" "offeredMany") ∈ lw_all := lw_g (lw_at lw_m8 22 rfl) rfl
theorem q1800 : (Jvm.Cond.lays "CliffHoneyModel" "CliffHoneyModel" "saleMoney" "I") ∈ lw_all := lw_g (lw_at lw_m8 23 rfl) rfl
theorem q1801 : (Jvm.Cond.soleField "CliffHoneyModel" "saleMoney") ∈ lw_all := lw_g (lw_at lw_m8 24 rfl) rfl
theorem q1802 : (Jvm.Cond.lays "CliffHoneyModel" "CliffHoneyModel" "saleMany" "I") ∈ lw_all := lw_g (lw_at lw_m8 25 rfl) rfl
theorem q1803 : (Jvm.Cond.soleField "CliffHoneyModel" "saleMany") ∈ lw_all := lw_g (lw_at lw_m8 26 rfl) rfl
theorem q1804 : (Jvm.Cond.lays "CliffHoneyModel" "CliffHoneyModel" "claims" "I") ∈ lw_all := lw_g (lw_at lw_m8 27 rfl) rfl
theorem q1805 : (Jvm.Cond.soleField "CliffHoneyModel" "claims") ∈ lw_all := lw_g (lw_at lw_m8 28 rfl) rfl
theorem q1806 : (Jvm.Cond.laysFinal "CliffHoneyModel" "CliffHoneyModel" "claimLedge" "[I") ∈ lw_all := lw_g (lw_at lw_m8 29 rfl) rfl
theorem q1807 : (Jvm.Cond.soleField "CliffHoneyModel" "claimLedge") ∈ lw_all := lw_g (lw_at lw_m8 30 rfl) rfl
theorem q1808 : (Jvm.Cond.laysFinal "CliffHoneyModel" "CliffHoneyModel" "claimBy" "[I") ∈ lw_all := lw_g (lw_at lw_m8 31 rfl) rfl
theorem q1809 : (Jvm.Cond.soleField "CliffHoneyModel" "claimBy") ∈ lw_all := lw_g (lw_at lw_m8 32 rfl) rfl
theorem q1810 : (Jvm.Cond.laysFinal "CliffHoneyModel" "CliffHoneyModel" "claimFrom" "[I") ∈ lw_all := lw_g (lw_at lw_m8 33 rfl) rfl
theorem q1811 : (Jvm.Cond.soleField "CliffHoneyModel" "claimFrom") ∈ lw_all := lw_g (lw_at lw_m8 34 rfl) rfl
theorem q1812 : (Jvm.Cond.laysFinal "CliffHoneyModel" "CliffHoneyModel" "claimTold" "[I") ∈ lw_all := lw_g (lw_at lw_m8 35 rfl) rfl
theorem q1813 : (Jvm.Cond.soleField "CliffHoneyModel" "claimTold") ∈ lw_all := lw_g (lw_at lw_m8 36 rfl) rfl
theorem q1814 : (Jvm.Cond.laysFinal "CliffHoneyModel" "CliffHoneyModel" "had" "[I") ∈ lw_all := lw_g (lw_at lw_m8 37 rfl) rfl
theorem q1815 : (Jvm.Cond.soleField "CliffHoneyModel" "had") ∈ lw_all := lw_g (lw_at lw_m8 38 rfl) rfl
theorem q1816 : (Jvm.Cond.laysFinal "CliffHoneyModel" "CliffHoneyModel" "hadCut" "[Z") ∈ lw_all := lw_g (lw_at lw_m8 39 rfl) rfl
theorem q1817 : (Jvm.Cond.soleField "CliffHoneyModel" "hadCut") ∈ lw_all := lw_g (lw_at lw_m8 40 rfl) rfl
theorem q1818 : (Jvm.Cond.laysFinal "CliffHoneyModel" "CliffHoneyModel" "hadSprayed" "[Z") ∈ lw_all := lw_g (lw_at lw_m8 41 rfl) rfl
theorem q1819 : (Jvm.Cond.soleField "CliffHoneyModel" "hadSprayed") ∈ lw_all := lw_g (lw_at lw_m8 42 rfl) rfl
theorem q1820 : (Jvm.Cond.superclass "CliffHoneyModel" "java/lang/Object") ∈ lw_all := lw_g (lw_at lw_m8 43 rfl) rfl
theorem q1823 : (Jvm.Cond.instanceMethod ({ cls := "CliffHoneyModel", name := "flowers", desc := "(III)Z" } : Jvm.MethodName)) ∈ lw_all := lw_g (lw_at lw_m8 46 rfl) rfl
theorem q1824 : (Jvm.Cond.selects "CliffHoneyModel" ({ cls := "CliffHoneyModel", name := "flowers", desc := "(III)Z" } : Jvm.MethodName) ({ cls := "CliffHoneyModel", name := "flowers", desc := "(III)Z" } : Jvm.MethodName)) ∈ lw_all := lw_g (lw_at lw_m8 47 rfl) rfl
theorem q1825 : (Jvm.Cond.code ({ cls := "CliffHoneyModel", name := "flowers", desc := "(III)Z" } : Jvm.MethodName) prog_23_method_6_code (4 : Nat) (Option.some Jvm.ClassFile.FieldType.boolean)) ∈ lw_all := lw_g (lw_at lw_m8 48 rfl) rfl
theorem q1826 : (Jvm.Cond.methodLink "CliffHoneyModel" (244 : Nat) ({ cls := "CliffHoneyModel", name := "isIn", desc := "(III)Z" } : Jvm.MethodName)) ∈ lw_all := lw_g (lw_at lw_m8 49 rfl) rfl
theorem q1827 : (Jvm.Cond.static ({ cls := "CliffHoneyModel", name := "isIn", desc := "(III)Z" } : Jvm.MethodName)) ∈ lw_all := lw_g (lw_at lw_m8 50 rfl) rfl
theorem q1828 : (Jvm.Cond.code ({ cls := "CliffHoneyModel", name := "isIn", desc := "(III)Z" } : Jvm.MethodName) prog_23_method_2_code (3 : Nat) (Option.some Jvm.ClassFile.FieldType.boolean)) ∈ lw_all := lw_g (lw_at lw_m8 51 rfl) rfl
theorem q1830 : (Jvm.Cond.instanceMethod ({ cls := "CliffHoneyModel", name := "ledge", desc := "(IIII)I" } : Jvm.MethodName)) ∈ lw_all := lw_g (lw_at lw_m8 53 rfl) rfl
theorem q1831 : (Jvm.Cond.selects "CliffHoneyModel" ({ cls := "CliffHoneyModel", name := "ledge", desc := "(IIII)I" } : Jvm.MethodName) ({ cls := "CliffHoneyModel", name := "ledge", desc := "(IIII)I" } : Jvm.MethodName)) ∈ lw_all := lw_g (lw_at lw_m8 54 rfl) rfl
theorem q1832 : (Jvm.Cond.code ({ cls := "CliffHoneyModel", name := "ledge", desc := "(IIII)I" } : Jvm.MethodName) prog_23_method_8_code (6 : Nat) (Option.some Jvm.ClassFile.FieldType.int)) ∈ lw_all := lw_g (lw_at lw_m8 55 rfl) rfl
theorem q1833 : (Jvm.Cond.methodLink "CliffHoneyModel" (251 : Nat) ({ cls := "CliffHoneyModel", name := "isPerson", desc := "(I)Z" } : Jvm.MethodName)) ∈ lw_all := lw_g (lw_at lw_m8 56 rfl) rfl
theorem q1834 : (Jvm.Cond.privateMethod ({ cls := "CliffHoneyModel", name := "isPerson", desc := "(I)Z" } : Jvm.MethodName)) ∈ lw_tbl := lw_at lw_m8 57 rfl
theorem q1835 : (Jvm.Cond.instanceMethod ({ cls := "CliffHoneyModel", name := "isPerson", desc := "(I)Z" } : Jvm.MethodName)) ∈ lw_all := lw_g (lw_at lw_m8 58 rfl) rfl
theorem q1836 : (Jvm.Cond.code ({ cls := "CliffHoneyModel", name := "isPerson", desc := "(I)Z" } : Jvm.MethodName) prog_23_method_65_code (2 : Nat) (Option.some Jvm.ClassFile.FieldType.boolean)) ∈ lw_all := lw_g (lw_at lw_m8 59 rfl) rfl
theorem q1838 : (Jvm.Cond.instanceMethod ({ cls := "CliffHoneyModel", name := "of", desc := "(II)I" } : Jvm.MethodName)) ∈ lw_all := lw_g (lw_at lw_m8 61 rfl) rfl
theorem q1839 : (Jvm.Cond.selects "CliffHoneyModel" ({ cls := "CliffHoneyModel", name := "of", desc := "(II)I" } : Jvm.MethodName) ({ cls := "CliffHoneyModel", name := "of", desc := "(II)I" } : Jvm.MethodName)) ∈ lw_all := lw_g (lw_at lw_m8 62 rfl) rfl
theorem q1840 : (Jvm.Cond.code ({ cls := "CliffHoneyModel", name := "of", desc := "(II)I" } : Jvm.MethodName) prog_23_method_9_code (3 : Nat) (Option.some Jvm.ClassFile.FieldType.int)) ∈ lw_all := lw_g (lw_at lw_m8 63 rfl) rfl
theorem q1841 : (Jvm.Cond.methodLink "CliffHoneyModel" (255 : Nat) ({ cls := "CliffHoneyModel", name := "isLedge", desc := "(I)Z" } : Jvm.MethodName)) ∈ lw_all := lw_g (lw_at lw_m8 64 rfl) rfl
theorem q1842 : (Jvm.Cond.privateMethod ({ cls := "CliffHoneyModel", name := "isLedge", desc := "(I)Z" } : Jvm.MethodName)) ∈ lw_tbl := lw_at lw_m8 65 rfl
theorem q1843 : (Jvm.Cond.instanceMethod ({ cls := "CliffHoneyModel", name := "isLedge", desc := "(I)Z" } : Jvm.MethodName)) ∈ lw_all := lw_g (lw_at lw_m8 66 rfl) rfl
theorem q1844 : (Jvm.Cond.code ({ cls := "CliffHoneyModel", name := "isLedge", desc := "(I)Z" } : Jvm.MethodName) prog_23_method_7_code (2 : Nat) (Option.some Jvm.ClassFile.FieldType.boolean)) ∈ lw_all := lw_g (lw_at lw_m8 67 rfl) rfl
theorem q1846 : (Jvm.Cond.instanceMethod ({ cls := "CliffHoneyModel", name := "spray", desc := "(I)Z" } : Jvm.MethodName)) ∈ lw_all := lw_g (lw_at lw_m8 69 rfl) rfl
theorem q1847 : (Jvm.Cond.selects "CliffHoneyModel" ({ cls := "CliffHoneyModel", name := "spray", desc := "(I)Z" } : Jvm.MethodName) ({ cls := "CliffHoneyModel", name := "spray", desc := "(I)Z" } : Jvm.MethodName)) ∈ lw_all := lw_g (lw_at lw_m8 70 rfl) rfl
theorem q1848 : (Jvm.Cond.code ({ cls := "CliffHoneyModel", name := "spray", desc := "(I)Z" } : Jvm.MethodName) prog_23_method_10_code (2 : Nat) (Option.some Jvm.ClassFile.FieldType.boolean)) ∈ lw_all := lw_g (lw_at lw_m8 71 rfl) rfl
theorem q1850 : (Jvm.Cond.instanceMethod ({ cls := "CliffHoneyModel", name := "days", desc := "(I)I" } : Jvm.MethodName)) ∈ lw_all := lw_g (lw_at lw_m8 73 rfl) rfl
theorem q1851 : (Jvm.Cond.selects "CliffHoneyModel" ({ cls := "CliffHoneyModel", name := "days", desc := "(I)I" } : Jvm.MethodName) ({ cls := "CliffHoneyModel", name := "days", desc := "(I)I" } : Jvm.MethodName)) ∈ lw_all := lw_g (lw_at lw_m8 74 rfl) rfl
theorem q1852 : (Jvm.Cond.code ({ cls := "CliffHoneyModel", name := "days", desc := "(I)I" } : Jvm.MethodName) prog_23_method_18_code (3 : Nat) (Option.some Jvm.ClassFile.FieldType.int)) ∈ lw_all := lw_g (lw_at lw_m8 75 rfl) rfl
theorem q1853 : (Jvm.Cond.methodLink "CliffHoneyModel" (282 : Nat) ({ cls := "CliffHoneyModel", name := "goes", desc := "()V" } : Jvm.MethodName)) ∈ lw_all := lw_g (lw_at lw_m8 76 rfl) rfl
theorem q1854 : (Jvm.Cond.privateMethod ({ cls := "CliffHoneyModel", name := "goes", desc := "()V" } : Jvm.MethodName)) ∈ lw_tbl := lw_at lw_m8 77 rfl
theorem q1855 : (Jvm.Cond.instanceMethod ({ cls := "CliffHoneyModel", name := "goes", desc := "()V" } : Jvm.MethodName)) ∈ lw_all := lw_g (lw_at lw_m8 78 rfl) rfl
theorem q1856 : (Jvm.Cond.code ({ cls := "CliffHoneyModel", name := "goes", desc := "()V" } : Jvm.MethodName) prog_23_method_17_code (1 : Nat) (Option.none : Option Jvm.ClassFile.FieldType)) ∈ lw_all := lw_g (lw_at lw_m8 79 rfl) rfl
theorem q1857 : (Jvm.Cond.methodLink "CliffHoneyModel" (276 : Nat) ({ cls := "CliffHoneyModel", name := "grows", desc := "()V" } : Jvm.MethodName)) ∈ lw_all := lw_g (lw_at lw_m8 80 rfl) rfl
theorem q1858 : (Jvm.Cond.privateMethod ({ cls := "CliffHoneyModel", name := "grows", desc := "()V" } : Jvm.MethodName)) ∈ lw_tbl := lw_at lw_m8 81 rfl
theorem q1859 : (Jvm.Cond.instanceMethod ({ cls := "CliffHoneyModel", name := "grows", desc := "()V" } : Jvm.MethodName)) ∈ lw_all := lw_g (lw_at lw_m8 82 rfl) rfl
theorem q1860 : (Jvm.Cond.code ({ cls := "CliffHoneyModel", name := "grows", desc := "()V" } : Jvm.MethodName) prog_23_method_11_code (5 : Nat) (Option.none : Option Jvm.ClassFile.FieldType)) ∈ lw_all := lw_g (lw_at lw_m8 83 rfl) rfl
theorem q1861 : (Jvm.Cond.methodLink "CliffHoneyModel" (258 : Nat) ({ cls := "CliffHoneyModel", name := "month", desc := "()I" } : Jvm.MethodName)) ∈ lw_all := lw_g (lw_at lw_m8 84 rfl) rfl
theorem q1862 : (Jvm.Cond.privateMethod ({ cls := "CliffHoneyModel", name := "month", desc := "()I" } : Jvm.MethodName)) ∈ lw_tbl := lw_at lw_m8 85 rfl
theorem q1863 : (Jvm.Cond.instanceMethod ({ cls := "CliffHoneyModel", name := "month", desc := "()I" } : Jvm.MethodName)) ∈ lw_all := lw_g (lw_at lw_m8 86 rfl) rfl
theorem q1864 : (Jvm.Cond.code ({ cls := "CliffHoneyModel", name := "month", desc := "()I" } : Jvm.MethodName) prog_23_method_5_code (1 : Nat) (Option.some Jvm.ClassFile.FieldType.int)) ∈ lw_all := lw_g (lw_at lw_m8 87 rfl) rfl
theorem q1865 : (Jvm.Cond.methodLink "CliffHoneyModel" (237 : Nat) ({ cls := "CliffHoneyModel", name := "season", desc := "()I" } : Jvm.MethodName)) ∈ lw_all := lw_g (lw_at lw_m8 88 rfl) rfl
theorem q1866 : (Jvm.Cond.privateMethod ({ cls := "CliffHoneyModel", name := "season", desc := "()I" } : Jvm.MethodName)) ∈ lw_tbl := lw_at lw_m8 89 rfl
theorem q1867 : (Jvm.Cond.instanceMethod ({ cls := "CliffHoneyModel", name := "season", desc := "()I" } : Jvm.MethodName)) ∈ lw_all := lw_g (lw_at lw_m8 90 rfl) rfl
theorem q1868 : (Jvm.Cond.code ({ cls := "CliffHoneyModel", name := "season", desc := "()I" } : Jvm.MethodName) prog_23_method_3_code (1 : Nat) (Option.some Jvm.ClassFile.FieldType.int)) ∈ lw_all := lw_g (lw_at lw_m8 91 rfl) rfl
theorem q1869 : (Jvm.Cond.methodLink "CliffHoneyModel" (241 : Nat) ({ cls := "CliffHoneyModel", name := "day", desc := "()I" } : Jvm.MethodName)) ∈ lw_all := lw_g (lw_at lw_m8 92 rfl) rfl
theorem q1870 : (Jvm.Cond.privateMethod ({ cls := "CliffHoneyModel", name := "day", desc := "()I" } : Jvm.MethodName)) ∈ lw_tbl := lw_at lw_m8 93 rfl
theorem q1871 : (Jvm.Cond.instanceMethod ({ cls := "CliffHoneyModel", name := "day", desc := "()I" } : Jvm.MethodName)) ∈ lw_all := lw_g (lw_at lw_m8 94 rfl) rfl
theorem q1872 : (Jvm.Cond.code ({ cls := "CliffHoneyModel", name := "day", desc := "()I" } : Jvm.MethodName) prog_23_method_4_code (1 : Nat) (Option.some Jvm.ClassFile.FieldType.int)) ∈ lw_all := lw_g (lw_at lw_m8 95 rfl) rfl
theorem q1873 : (Jvm.Cond.methodLink "CliffHoneyModel" (279 : Nat) ({ cls := "CliffHoneyModel", name := "ends", desc := "()V" } : Jvm.MethodName)) ∈ lw_all := lw_g (lw_at lw_m8 96 rfl) rfl
theorem q1874 : (Jvm.Cond.privateMethod ({ cls := "CliffHoneyModel", name := "ends", desc := "()V" } : Jvm.MethodName)) ∈ lw_tbl := lw_at lw_m8 97 rfl
theorem q1875 : (Jvm.Cond.instanceMethod ({ cls := "CliffHoneyModel", name := "ends", desc := "()V" } : Jvm.MethodName)) ∈ lw_all := lw_g (lw_at lw_m8 98 rfl) rfl
theorem q1876 : (Jvm.Cond.code ({ cls := "CliffHoneyModel", name := "ends", desc := "()V" } : Jvm.MethodName) prog_23_method_14_code (3 : Nat) (Option.none : Option Jvm.ClassFile.FieldType)) ∈ lw_all := lw_g (lw_at lw_m8 99 rfl) rfl
theorem q1877 : (Jvm.Cond.methodLink "CliffHoneyModel" (261 : Nat) ({ cls := "CliffHoneyModel", name := "within", desc := "(I)I" } : Jvm.MethodName)) ∈ lw_all := lw_g (lw_at lw_m8 100 rfl) rfl
theorem q1878 : (Jvm.Cond.static ({ cls := "CliffHoneyModel", name := "within", desc := "(I)I" } : Jvm.MethodName)) ∈ lw_all := lw_g (lw_at lw_m8 101 rfl) rfl
theorem q1879 : (Jvm.Cond.code ({ cls := "CliffHoneyModel", name := "within", desc := "(I)I" } : Jvm.MethodName) prog_23_method_12_code (1 : Nat) (Option.some Jvm.ClassFile.FieldType.int)) ∈ lw_all := lw_g (lw_at lw_m8 102 rfl) rfl
theorem q1880 : (Jvm.Cond.methodLink "CliffHoneyModel" (265 : Nat) ({ cls := "CliffHoneyModel", name := "swarms", desc := "(I)V" } : Jvm.MethodName)) ∈ lw_all := lw_g (lw_at lw_m8 103 rfl) rfl
theorem q1881 : (Jvm.Cond.privateMethod ({ cls := "CliffHoneyModel", name := "swarms", desc := "(I)V" } : Jvm.MethodName)) ∈ lw_tbl := lw_at lw_m8 104 rfl
theorem q1882 : (Jvm.Cond.instanceMethod ({ cls := "CliffHoneyModel", name := "swarms", desc := "(I)V" } : Jvm.MethodName)) ∈ lw_all := lw_g (lw_at lw_m8 105 rfl) rfl
theorem q1883 : (Jvm.Cond.code ({ cls := "CliffHoneyModel", name := "swarms", desc := "(I)V" } : Jvm.MethodName) prog_23_method_16_code (4 : Nat) (Option.none : Option Jvm.ClassFile.FieldType)) ∈ lw_all := lw_g (lw_at lw_m8 106 rfl) rfl
theorem q1884 : (Jvm.Cond.methodLink "CliffHoneyModel" (272 : Nat) ({ cls := "CliffHoneyModel", name := "apart", desc := "(II)I" } : Jvm.MethodName)) ∈ lw_all := lw_g (lw_at lw_m8 107 rfl) rfl
theorem q1885 : (Jvm.Cond.privateMethod ({ cls := "CliffHoneyModel", name := "apart", desc := "(II)I" } : Jvm.MethodName)) ∈ lw_tbl := lw_at lw_m8 108 rfl
theorem q1886 : (Jvm.Cond.instanceMethod ({ cls := "CliffHoneyModel", name := "apart", desc := "(II)I" } : Jvm.MethodName)) ∈ lw_all := lw_g (lw_at lw_m8 109 rfl) rfl
theorem q1887 : (Jvm.Cond.code ({ cls := "CliffHoneyModel", name := "apart", desc := "(II)I" } : Jvm.MethodName) prog_23_method_15_code (3 : Nat) (Option.some Jvm.ClassFile.FieldType.int)) ∈ lw_all := lw_g (lw_at lw_m8 110 rfl) rfl
theorem q1888 : (Jvm.Cond.methodLink "CliffHoneyModel" (269 : Nat) ({ cls := "CliffHoneyModel", name := "abs", desc := "(I)I" } : Jvm.MethodName)) ∈ lw_all := lw_g (lw_at lw_m8 111 rfl) rfl
theorem q1889 : (Jvm.Cond.static ({ cls := "CliffHoneyModel", name := "abs", desc := "(I)I" } : Jvm.MethodName)) ∈ lw_all := lw_g (lw_at lw_m8 112 rfl) rfl
theorem q1890 : (Jvm.Cond.code ({ cls := "CliffHoneyModel", name := "abs", desc := "(I)I" } : Jvm.MethodName) prog_23_method_13_code (1 : Nat) (Option.some Jvm.ClassFile.FieldType.int)) ∈ lw_all := lw_g (lw_at lw_m8 113 rfl) rfl
theorem q1892 : (Jvm.Cond.instanceMethod ({ cls := "CliffHoneyModel", name := "weather", desc := "(III)Z" } : Jvm.MethodName)) ∈ lw_all := lw_g (lw_at lw_m8 115 rfl) rfl
theorem q1893 : (Jvm.Cond.selects "CliffHoneyModel" ({ cls := "CliffHoneyModel", name := "weather", desc := "(III)Z" } : Jvm.MethodName) ({ cls := "CliffHoneyModel", name := "weather", desc := "(III)Z" } : Jvm.MethodName)) ∈ lw_all := lw_g (lw_at lw_m8 116 rfl) rfl
theorem q1894 : (Jvm.Cond.code ({ cls := "CliffHoneyModel", name := "weather", desc := "(III)Z" } : Jvm.MethodName) prog_23_method_19_code (4 : Nat) (Option.some Jvm.ClassFile.FieldType.boolean)) ∈ lw_all := lw_g (lw_at lw_m8 117 rfl) rfl
theorem q1896 : (Jvm.Cond.instanceMethod ({ cls := "CliffHoneyModel", name := "look", desc := "(I)I" } : Jvm.MethodName)) ∈ lw_all := lw_g (lw_at lw_m8 119 rfl) rfl
theorem q1897 : (Jvm.Cond.selects "CliffHoneyModel" ({ cls := "CliffHoneyModel", name := "look", desc := "(I)I" } : Jvm.MethodName) ({ cls := "CliffHoneyModel", name := "look", desc := "(I)I" } : Jvm.MethodName)) ∈ lw_all := lw_g (lw_at lw_m8 120 rfl) rfl
theorem q1898 : (Jvm.Cond.code ({ cls := "CliffHoneyModel", name := "look", desc := "(I)I" } : Jvm.MethodName) prog_23_method_20_code (4 : Nat) (Option.some Jvm.ClassFile.FieldType.int)) ∈ lw_all := lw_g (lw_at lw_m8 121 rfl) rfl
theorem q1900 : (Jvm.Cond.instanceMethod ({ cls := "CliffHoneyModel", name := "feed", desc := "(IIIII)I" } : Jvm.MethodName)) ∈ lw_all := lw_g (lw_at lw_m8 123 rfl) rfl
theorem q1901 : (Jvm.Cond.selects "CliffHoneyModel" ({ cls := "CliffHoneyModel", name := "feed", desc := "(IIIII)I" } : Jvm.MethodName) ({ cls := "CliffHoneyModel", name := "feed", desc := "(IIIII)I" } : Jvm.MethodName)) ∈ lw_all := lw_g (lw_at lw_m8 124 rfl) rfl
theorem q1902 : (Jvm.Cond.code ({ cls := "CliffHoneyModel", name := "feed", desc := "(IIIII)I" } : Jvm.MethodName) prog_23_method_21_code (8 : Nat) (Option.some Jvm.ClassFile.FieldType.int)) ∈ lw_all := lw_g (lw_at lw_m8 125 rfl) rfl
theorem q1904 : (Jvm.Cond.instanceMethod ({ cls := "CliffHoneyModel", name := "end", desc := "(I)Z" } : Jvm.MethodName)) ∈ lw_all := lw_g (lw_at lw_m8 127 rfl) rfl
theorem q1905 : (Jvm.Cond.selects "CliffHoneyModel" ({ cls := "CliffHoneyModel", name := "end", desc := "(I)Z" } : Jvm.MethodName) ({ cls := "CliffHoneyModel", name := "end", desc := "(I)Z" } : Jvm.MethodName)) ∈ lw_all := lw_g (lw_at lw_m8 128 rfl) rfl
theorem q1906 : (Jvm.Cond.code ({ cls := "CliffHoneyModel", name := "end", desc := "(I)Z" } : Jvm.MethodName) prog_23_method_22_code (2 : Nat) (Option.some Jvm.ClassFile.FieldType.boolean)) ∈ lw_all := lw_g (lw_at lw_m8 129 rfl) rfl
theorem q1908 : (Jvm.Cond.instanceMethod ({ cls := "CliffHoneyModel", name := "rules", desc := "(I)I" } : Jvm.MethodName)) ∈ lw_all := lw_g (lw_at lw_m8 131 rfl) rfl
theorem q1909 : (Jvm.Cond.selects "CliffHoneyModel" ({ cls := "CliffHoneyModel", name := "rules", desc := "(I)I" } : Jvm.MethodName) ({ cls := "CliffHoneyModel", name := "rules", desc := "(I)I" } : Jvm.MethodName)) ∈ lw_all := lw_g (lw_at lw_m8 132 rfl) rfl
theorem q1910 : (Jvm.Cond.code ({ cls := "CliffHoneyModel", name := "rules", desc := "(I)I" } : Jvm.MethodName) prog_23_method_41_code (3 : Nat) (Option.some Jvm.ClassFile.FieldType.int)) ∈ lw_all := lw_g (lw_at lw_m8 133 rfl) rfl
theorem q1911 : (Jvm.Cond.methodLink "CliffHoneyModel" (376 : Nat) ({ cls := "CliffHoneyModel", name := "next0", desc := "()V" } : Jvm.MethodName)) ∈ lw_all := lw_g (lw_at lw_m8 134 rfl) rfl
theorem q1912 : (Jvm.Cond.privateMethod ({ cls := "CliffHoneyModel", name := "next0", desc := "()V" } : Jvm.MethodName)) ∈ lw_tbl := lw_at lw_m8 135 rfl
theorem q1913 : (Jvm.Cond.instanceMethod ({ cls := "CliffHoneyModel", name := "next0", desc := "()V" } : Jvm.MethodName)) ∈ lw_all := lw_g (lw_at lw_m8 136 rfl) rfl
theorem q1914 : (Jvm.Cond.code ({ cls := "CliffHoneyModel", name := "next0", desc := "()V" } : Jvm.MethodName) prog_23_method_27_code (5 : Nat) (Option.none : Option Jvm.ClassFile.FieldType)) ∈ lw_all := lw_g (lw_at lw_m8 137 rfl) rfl
theorem q1915 : (Jvm.Cond.methodLink "CliffHoneyModel" (345 : Nat) ({ cls := "CliffHoneyModel", name := "see", desc := "(I)I" } : Jvm.MethodName)) ∈ lw_all := lw_g (lw_at lw_m8 138 rfl) rfl
theorem q1916 : (Jvm.Cond.privateMethod ({ cls := "CliffHoneyModel", name := "see", desc := "(I)I" } : Jvm.MethodName)) ∈ lw_tbl := lw_at lw_m8 139 rfl
theorem q1917 : (Jvm.Cond.instanceMethod ({ cls := "CliffHoneyModel", name := "see", desc := "(I)I" } : Jvm.MethodName)) ∈ lw_all := lw_g (lw_at lw_m8 140 rfl) rfl
theorem q1918 : (Jvm.Cond.code ({ cls := "CliffHoneyModel", name := "see", desc := "(I)I" } : Jvm.MethodName) prog_23_method_23_code (2 : Nat) (Option.some Jvm.ClassFile.FieldType.int)) ∈ lw_all := lw_g (lw_at lw_m8 141 rfl) rfl
theorem q1919 : (Jvm.Cond.methodLink "CliffHoneyModel" (354 : Nat) ({ cls := "CliffHoneyModel", name := "isLetter", desc := "(I)Z" } : Jvm.MethodName)) ∈ lw_all := lw_g (lw_at lw_m8 142 rfl) rfl
theorem q1920 : (Jvm.Cond.static ({ cls := "CliffHoneyModel", name := "isLetter", desc := "(I)Z" } : Jvm.MethodName)) ∈ lw_all := lw_g (lw_at lw_m8 143 rfl) rfl
theorem q1921 : (Jvm.Cond.code ({ cls := "CliffHoneyModel", name := "isLetter", desc := "(I)Z" } : Jvm.MethodName) prog_23_method_24_code (1 : Nat) (Option.some Jvm.ClassFile.FieldType.boolean)) ∈ lw_all := lw_g (lw_at lw_m8 144 rfl) rfl
theorem q1922 : (Jvm.Cond.methodLink "CliffHoneyModel" (357 : Nat) ({ cls := "CliffHoneyModel", name := "word", desc := "(J)I" } : Jvm.MethodName)) ∈ lw_all := lw_g (lw_at lw_m8 145 rfl) rfl
theorem q1923 : (Jvm.Cond.static ({ cls := "CliffHoneyModel", name := "word", desc := "(J)I" } : Jvm.MethodName)) ∈ lw_all := lw_g (lw_at lw_m8 146 rfl) rfl
theorem q1924 : (Jvm.Cond.code ({ cls := "CliffHoneyModel", name := "word", desc := "(J)I" } : Jvm.MethodName) prog_23_method_26_code (2 : Nat) (Option.some Jvm.ClassFile.FieldType.int)) ∈ lw_all := lw_g (lw_at lw_m8 147 rfl) rfl
theorem q1925 : (Jvm.Cond.constantLong "CliffHoneyModel" (300 : Nat) (465557354085 : Int64)) ∈ lw_all := lw_g (lw_at lw_m8 148 rfl) rfl
theorem q1926 : (Jvm.Cond.constantLong "CliffHoneyModel" (302 : Nat) (6447474 : Int64)) ∈ lw_all := lw_g (lw_at lw_m8 149 rfl) rfl
theorem q1927 : (Jvm.Cond.constantLong "CliffHoneyModel" (304 : Nat) (495672455781 : Int64)) ∈ lw_all := lw_g (lw_at lw_m8 150 rfl) rfl
theorem q1928 : (Jvm.Cond.constantLong "CliffHoneyModel" (306 : Nat) (465557353070 : Int64)) ∈ lw_all := lw_g (lw_at lw_m8 151 rfl) rfl
theorem q1929 : (Jvm.Cond.constantLong "CliffHoneyModel" (308 : Nat) (7302244 : Int64)) ∈ lw_all := lw_g (lw_at lw_m8 152 rfl) rfl
theorem q1930 : (Jvm.Cond.constantLong "CliffHoneyModel" (310 : Nat) (2003330414 : Int64)) ∈ lw_all := lw_g (lw_at lw_m8 153 rfl) rfl
theorem q1931 : (Jvm.Cond.constantLong "CliffHoneyModel" (312 : Nat) (28530 : Int64)) ∈ lw_all := lw_g (lw_at lw_m8 154 rfl) rfl
theorem q1932 : (Jvm.Cond.constantLong "CliffHoneyModel" (314 : Nat) (6385252 : Int64)) ∈ lw_all := lw_g (lw_at lw_m8 155 rfl) rfl
theorem q1933 : (Jvm.Cond.constantLong "CliffHoneyModel" (316 : Nat) (7237492 : Int64)) ∈ lw_all := lw_g (lw_at lw_m8 156 rfl) rfl
theorem q1934 : (Jvm.Cond.constantLong "CliffHoneyModel" (318 : Nat) (109356116108658 : Int64)) ∈ lw_all := lw_g (lw_at lw_m8 157 rfl) rfl
theorem q1935 : (Jvm.Cond.constantLong "CliffHoneyModel" (320 : Nat) (1919905893 : Int64)) ∈ lw_all := lw_g (lw_at lw_m8 158 rfl) rfl
theorem q1936 : (Jvm.Cond.constantLong "CliffHoneyModel" (322 : Nat) (112603009672562 : Int64)) ∈ lw_all := lw_g (lw_at lw_m8 159 rfl) rfl
theorem q1937 : (Jvm.Cond.constantLong "CliffHoneyModel" (324 : Nat) (1818324580 : Int64)) ∈ lw_all := lw_g (lw_at lw_m8 160 rfl) rfl
theorem q1938 : (Jvm.Cond.constantLong "CliffHoneyModel" (326 : Nat) (6578553 : Int64)) ∈ lw_all := lw_g (lw_at lw_m8 161 rfl) rfl
theorem q1939 : (Jvm.Cond.constantLong "CliffHoneyModel" (328 : Nat) (470020945000 : Int64)) ∈ lw_all := lw_g (lw_at lw_m8 162 rfl) rfl
theorem q1940 : (Jvm.Cond.constantLong "CliffHoneyModel" (330 : Nat) (1836019566 : Int64)) ∈ lw_all := lw_g (lw_at lw_m8 163 rfl) rfl
theorem q1941 : (Jvm.Cond.constantLong "CliffHoneyModel" (332 : Nat) (2003398244 : Int64)) ∈ lw_all := lw_g (lw_at lw_m8 164 rfl) rfl
theorem q1942 : (Jvm.Cond.constantLong "CliffHoneyModel" (334 : Nat) (114784769370228 : Int64)) ∈ lw_all := lw_g (lw_at lw_m8 165 rfl) rfl
theorem q1943 : (Jvm.Cond.constantLong "CliffHoneyModel" (336 : Nat) (8319400191629685864 : Int64)) ∈ lw_all := lw_g (lw_at lw_m8 166 rfl) rfl
theorem q1944 : (Jvm.Cond.constantLong "CliffHoneyModel" (338 : Nat) (1668246882 : Int64)) ∈ lw_all := lw_g (lw_at lw_m8 167 rfl) rfl
theorem q1945 : (Jvm.Cond.constantLong "CliffHoneyModel" (340 : Nat) (126879263846254 : Int64)) ∈ lw_all := lw_g (lw_at lw_m8 168 rfl) rfl
theorem q1946 : (Jvm.Cond.methodLink "CliffHoneyModel" (361 : Nat) ({ cls := "CliffHoneyModel", name := "isDigit", desc := "(I)Z" } : Jvm.MethodName)) ∈ lw_all := lw_g (lw_at lw_m8 169 rfl) rfl
theorem q1947 : (Jvm.Cond.static ({ cls := "CliffHoneyModel", name := "isDigit", desc := "(I)Z" } : Jvm.MethodName)) ∈ lw_all := lw_g (lw_at lw_m8 170 rfl) rfl
theorem q1948 : (Jvm.Cond.code ({ cls := "CliffHoneyModel", name := "isDigit", desc := "(I)Z" } : Jvm.MethodName) prog_23_method_25_code (1 : Nat) (Option.some Jvm.ClassFile.FieldType.boolean)) ∈ lw_all := lw_g (lw_at lw_m8 171 rfl) rfl
theorem q1949 : (Jvm.Cond.methodLink "CliffHoneyModel" (423 : Nat) ({ cls := "CliffHoneyModel", name := "aLine", desc := "()Z" } : Jvm.MethodName)) ∈ lw_all := lw_g (lw_at lw_m8 172 rfl) rfl
theorem q1950 : (Jvm.Cond.privateMethod ({ cls := "CliffHoneyModel", name := "aLine", desc := "()Z" } : Jvm.MethodName)) ∈ lw_tbl := lw_at lw_m8 173 rfl
theorem q1951 : (Jvm.Cond.instanceMethod ({ cls := "CliffHoneyModel", name := "aLine", desc := "()Z" } : Jvm.MethodName)) ∈ lw_all := lw_g (lw_at lw_m8 174 rfl) rfl
theorem q1952 : (Jvm.Cond.code ({ cls := "CliffHoneyModel", name := "aLine", desc := "()Z" } : Jvm.MethodName) prog_23_method_40_code (1 : Nat) (Option.some Jvm.ClassFile.FieldType.boolean)) ∈ lw_all := lw_g (lw_at lw_m8 175 rfl) rfl
theorem q1953 : (Jvm.Cond.methodLink "CliffHoneyModel" (373 : Nat) ({ cls := "CliffHoneyModel", name := "bad", desc := "(I)Z" } : Jvm.MethodName)) ∈ lw_all := lw_g (lw_at lw_m8 176 rfl) rfl
theorem q1954 : (Jvm.Cond.privateMethod ({ cls := "CliffHoneyModel", name := "bad", desc := "(I)Z" } : Jvm.MethodName)) ∈ lw_tbl := lw_at lw_m8 177 rfl
theorem q1955 : (Jvm.Cond.instanceMethod ({ cls := "CliffHoneyModel", name := "bad", desc := "(I)Z" } : Jvm.MethodName)) ∈ lw_all := lw_g (lw_at lw_m8 178 rfl) rfl
theorem q1956 : (Jvm.Cond.code ({ cls := "CliffHoneyModel", name := "bad", desc := "(I)Z" } : Jvm.MethodName) prog_23_method_28_code (2 : Nat) (Option.some Jvm.ClassFile.FieldType.boolean)) ∈ lw_all := lw_g (lw_at lw_m8 179 rfl) rfl
theorem q1957 : (Jvm.Cond.methodLink "CliffHoneyModel" (420 : Nat) ({ cls := "CliffHoneyModel", name := "inner", desc := "(I)Z" } : Jvm.MethodName)) ∈ lw_all := lw_g (lw_at lw_m8 180 rfl) rfl
theorem q1958 : (Jvm.Cond.privateMethod ({ cls := "CliffHoneyModel", name := "inner", desc := "(I)Z" } : Jvm.MethodName)) ∈ lw_tbl := lw_at lw_m8 181 rfl
theorem q1959 : (Jvm.Cond.instanceMethod ({ cls := "CliffHoneyModel", name := "inner", desc := "(I)Z" } : Jvm.MethodName)) ∈ lw_all := lw_g (lw_at lw_m8 182 rfl) rfl
theorem q1960 : (Jvm.Cond.code ({ cls := "CliffHoneyModel", name := "inner", desc := "(I)Z" } : Jvm.MethodName) prog_23_method_39_code (2 : Nat) (Option.some Jvm.ClassFile.FieldType.boolean)) ∈ lw_all := lw_g (lw_at lw_m8 183 rfl) rfl
theorem q1961 : (Jvm.Cond.methodLink "CliffHoneyModel" (399 : Nat) ({ cls := "CliffHoneyModel", name := "sumOf", desc := "()Z" } : Jvm.MethodName)) ∈ lw_all := lw_g (lw_at lw_m8 184 rfl) rfl
theorem q1962 : (Jvm.Cond.privateMethod ({ cls := "CliffHoneyModel", name := "sumOf", desc := "()Z" } : Jvm.MethodName)) ∈ lw_tbl := lw_at lw_m8 185 rfl
theorem q1963 : (Jvm.Cond.instanceMethod ({ cls := "CliffHoneyModel", name := "sumOf", desc := "()Z" } : Jvm.MethodName)) ∈ lw_all := lw_g (lw_at lw_m8 186 rfl) rfl
theorem q1964 : (Jvm.Cond.code ({ cls := "CliffHoneyModel", name := "sumOf", desc := "()Z" } : Jvm.MethodName) prog_23_method_32_code (2 : Nat) (Option.some Jvm.ClassFile.FieldType.boolean)) ∈ lw_all := lw_g (lw_at lw_m8 187 rfl) rfl
theorem q1965 : (Jvm.Cond.methodLink "CliffHoneyModel" (385 : Nat) ({ cls := "CliffHoneyModel", name := "product", desc := "()Z" } : Jvm.MethodName)) ∈ lw_all := lw_g (lw_at lw_m8 188 rfl) rfl
theorem q1966 : (Jvm.Cond.privateMethod ({ cls := "CliffHoneyModel", name := "product", desc := "()Z" } : Jvm.MethodName)) ∈ lw_tbl := lw_at lw_m8 189 rfl
theorem q1967 : (Jvm.Cond.instanceMethod ({ cls := "CliffHoneyModel", name := "product", desc := "()Z" } : Jvm.MethodName)) ∈ lw_all := lw_g (lw_at lw_m8 190 rfl) rfl
theorem q1968 : (Jvm.Cond.code ({ cls := "CliffHoneyModel", name := "product", desc := "()Z" } : Jvm.MethodName) prog_23_method_33_code (2 : Nat) (Option.some Jvm.ClassFile.FieldType.boolean)) ∈ lw_all := lw_g (lw_at lw_m8 191 rfl) rfl
theorem q1969 : (Jvm.Cond.methodLink "CliffHoneyModel" (393 : Nat) ({ cls := "CliffHoneyModel", name := "unit", desc := "()Z" } : Jvm.MethodName)) ∈ lw_all := lw_g (lw_at lw_m8 192 rfl) rfl
theorem q1970 : (Jvm.Cond.privateMethod ({ cls := "CliffHoneyModel", name := "unit", desc := "()Z" } : Jvm.MethodName)) ∈ lw_tbl := lw_at lw_m8 193 rfl
theorem q1971 : (Jvm.Cond.instanceMethod ({ cls := "CliffHoneyModel", name := "unit", desc := "()Z" } : Jvm.MethodName)) ∈ lw_all := lw_g (lw_at lw_m8 194 rfl) rfl
theorem q1972 : (Jvm.Cond.code ({ cls := "CliffHoneyModel", name := "unit", desc := "()Z" } : Jvm.MethodName) prog_23_method_34_code (1 : Nat) (Option.some Jvm.ClassFile.FieldType.boolean)) ∈ lw_all := lw_g (lw_at lw_m8 195 rfl) rfl
theorem q1973 : (Jvm.Cond.methodLink "CliffHoneyModel" (396 : Nat) ({ cls := "CliffHoneyModel", name := "opens", desc := "()Z" } : Jvm.MethodName)) ∈ lw_all := lw_g (lw_at lw_m8 196 rfl) rfl
theorem q1974 : (Jvm.Cond.privateMethod ({ cls := "CliffHoneyModel", name := "opens", desc := "()Z" } : Jvm.MethodName)) ∈ lw_tbl := lw_at lw_m8 197 rfl
theorem q1975 : (Jvm.Cond.instanceMethod ({ cls := "CliffHoneyModel", name := "opens", desc := "()Z" } : Jvm.MethodName)) ∈ lw_all := lw_g (lw_at lw_m8 198 rfl) rfl
theorem q1976 : (Jvm.Cond.code ({ cls := "CliffHoneyModel", name := "opens", desc := "()Z" } : Jvm.MethodName) prog_23_method_31_code (1 : Nat) (Option.some Jvm.ClassFile.FieldType.boolean)) ∈ lw_all := lw_g (lw_at lw_m8 199 rfl) rfl
theorem q1977 : (Jvm.Cond.methodLink "CliffHoneyModel" (402 : Nat) ({ cls := "CliffHoneyModel", name := "need", desc := "(I)Z" } : Jvm.MethodName)) ∈ lw_all := lw_g (lw_at lw_m8 200 rfl) rfl
theorem q1978 : (Jvm.Cond.privateMethod ({ cls := "CliffHoneyModel", name := "need", desc := "(I)Z" } : Jvm.MethodName)) ∈ lw_tbl := lw_at lw_m8 201 rfl
theorem q1979 : (Jvm.Cond.instanceMethod ({ cls := "CliffHoneyModel", name := "need", desc := "(I)Z" } : Jvm.MethodName)) ∈ lw_all := lw_g (lw_at lw_m8 202 rfl) rfl
theorem q1980 : (Jvm.Cond.code ({ cls := "CliffHoneyModel", name := "need", desc := "(I)Z" } : Jvm.MethodName) prog_23_method_29_code (2 : Nat) (Option.some Jvm.ClassFile.FieldType.boolean)) ∈ lw_all := lw_g (lw_at lw_m8 203 rfl) rfl
theorem q1981 : (Jvm.Cond.methodLink "CliffHoneyModel" (389 : Nat) ({ cls := "CliffHoneyModel", name := "lay", desc := "(II)V" } : Jvm.MethodName)) ∈ lw_all := lw_g (lw_at lw_m8 204 rfl) rfl
theorem q1982 : (Jvm.Cond.privateMethod ({ cls := "CliffHoneyModel", name := "lay", desc := "(II)V" } : Jvm.MethodName)) ∈ lw_tbl := lw_at lw_m8 205 rfl
theorem q1983 : (Jvm.Cond.instanceMethod ({ cls := "CliffHoneyModel", name := "lay", desc := "(II)V" } : Jvm.MethodName)) ∈ lw_all := lw_g (lw_at lw_m8 206 rfl) rfl
theorem q1984 : (Jvm.Cond.code ({ cls := "CliffHoneyModel", name := "lay", desc := "(II)V" } : Jvm.MethodName) prog_23_method_30_code (3 : Nat) (Option.none : Option Jvm.ClassFile.FieldType)) ∈ lw_all := lw_g (lw_at lw_m8 207 rfl) rfl
theorem q1985 : (Jvm.Cond.methodLink "CliffHoneyModel" (414 : Nat) ({ cls := "CliffHoneyModel", name := "any", desc := "()Z" } : Jvm.MethodName)) ∈ lw_all := lw_g (lw_at lw_m8 208 rfl) rfl
theorem q1986 : (Jvm.Cond.privateMethod ({ cls := "CliffHoneyModel", name := "any", desc := "()Z" } : Jvm.MethodName)) ∈ lw_tbl := lw_at lw_m8 209 rfl
theorem q1987 : (Jvm.Cond.instanceMethod ({ cls := "CliffHoneyModel", name := "any", desc := "()Z" } : Jvm.MethodName)) ∈ lw_all := lw_g (lw_at lw_m8 210 rfl) rfl
theorem q1988 : (Jvm.Cond.code ({ cls := "CliffHoneyModel", name := "any", desc := "()Z" } : Jvm.MethodName) prog_23_method_35_code (1 : Nat) (Option.some Jvm.ClassFile.FieldType.boolean)) ∈ lw_all := lw_g (lw_at lw_m8 211 rfl) rfl
theorem q1989 : (Jvm.Cond.methodLink "CliffHoneyModel" (405 : Nat) ({ cls := "CliffHoneyModel", name := "all", desc := "()Z" } : Jvm.MethodName)) ∈ lw_all := lw_g (lw_at lw_m8 212 rfl) rfl
theorem q1990 : (Jvm.Cond.privateMethod ({ cls := "CliffHoneyModel", name := "all", desc := "()Z" } : Jvm.MethodName)) ∈ lw_tbl := lw_at lw_m8 213 rfl
theorem q1991 : (Jvm.Cond.instanceMethod ({ cls := "CliffHoneyModel", name := "all", desc := "()Z" } : Jvm.MethodName)) ∈ lw_all := lw_g (lw_at lw_m8 214 rfl) rfl
theorem q1992 : (Jvm.Cond.code ({ cls := "CliffHoneyModel", name := "all", desc := "()Z" } : Jvm.MethodName) prog_23_method_36_code (1 : Nat) (Option.some Jvm.ClassFile.FieldType.boolean)) ∈ lw_all := lw_g (lw_at lw_m8 215 rfl) rfl
theorem q1993 : (Jvm.Cond.methodLink "CliffHoneyModel" (408 : Nat) ({ cls := "CliffHoneyModel", name := "one", desc := "()Z" } : Jvm.MethodName)) ∈ lw_all := lw_g (lw_at lw_m8 216 rfl) rfl
theorem q1994 : (Jvm.Cond.privateMethod ({ cls := "CliffHoneyModel", name := "one", desc := "()Z" } : Jvm.MethodName)) ∈ lw_tbl := lw_at lw_m8 217 rfl
theorem q1995 : (Jvm.Cond.instanceMethod ({ cls := "CliffHoneyModel", name := "one", desc := "()Z" } : Jvm.MethodName)) ∈ lw_all := lw_g (lw_at lw_m8 218 rfl) rfl
theorem q1996 : (Jvm.Cond.code ({ cls := "CliffHoneyModel", name := "one", desc := "()Z" } : Jvm.MethodName) prog_23_method_37_code (2 : Nat) (Option.some Jvm.ClassFile.FieldType.boolean)) ∈ lw_all := lw_g (lw_at lw_m8 219 rfl) rfl
theorem q1997 : (Jvm.Cond.methodLink "CliffHoneyModel" (417 : Nat) ({ cls := "CliffHoneyModel", name := "aNumber", desc := "(I)Z" } : Jvm.MethodName)) ∈ lw_all := lw_g (lw_at lw_m8 220 rfl) rfl
theorem q1998 : (Jvm.Cond.privateMethod ({ cls := "CliffHoneyModel", name := "aNumber", desc := "(I)Z" } : Jvm.MethodName)) ∈ lw_tbl := lw_at lw_m8 221 rfl
theorem q1999 : (Jvm.Cond.instanceMethod ({ cls := "CliffHoneyModel", name := "aNumber", desc := "(I)Z" } : Jvm.MethodName)) ∈ lw_all := lw_g (lw_at lw_m8 222 rfl) rfl
theorem q2000 : (Jvm.Cond.code ({ cls := "CliffHoneyModel", name := "aNumber", desc := "(I)Z" } : Jvm.MethodName) prog_23_method_38_code (2 : Nat) (Option.some Jvm.ClassFile.FieldType.boolean)) ∈ lw_all := lw_g (lw_at lw_m8 223 rfl) rfl
theorem q2001 : (Jvm.Cond.methodLink "CliffHoneyModel" (429 : Nat) ({ cls := "CliffHoneyModel", name := "takes", desc := "(I)V" } : Jvm.MethodName)) ∈ lw_all := lw_g (lw_at lw_m8 224 rfl) rfl
theorem q2002 : (Jvm.Cond.privateMethod ({ cls := "CliffHoneyModel", name := "takes", desc := "(I)V" } : Jvm.MethodName)) ∈ lw_tbl := lw_at lw_m8 225 rfl
theorem q2003 : (Jvm.Cond.instanceMethod ({ cls := "CliffHoneyModel", name := "takes", desc := "(I)V" } : Jvm.MethodName)) ∈ lw_all := lw_g (lw_at lw_m8 226 rfl) rfl
theorem q2004 : (Jvm.Cond.code ({ cls := "CliffHoneyModel", name := "takes", desc := "(I)V" } : Jvm.MethodName) prog_23_method_42_code (3 : Nat) (Option.none : Option Jvm.ClassFile.FieldType)) ∈ lw_all := lw_g (lw_at lw_m8 227 rfl) rfl
theorem q2006 : (Jvm.Cond.instanceMethod ({ cls := "CliffHoneyModel", name := "fault", desc := "(I)I" } : Jvm.MethodName)) ∈ lw_all := lw_g (lw_at lw_m8 229 rfl) rfl
theorem q2007 : (Jvm.Cond.selects "CliffHoneyModel" ({ cls := "CliffHoneyModel", name := "fault", desc := "(I)I" } : Jvm.MethodName) ({ cls := "CliffHoneyModel", name := "fault", desc := "(I)I" } : Jvm.MethodName)) ∈ lw_all := lw_g (lw_at lw_m8 230 rfl) rfl
theorem q2008 : (Jvm.Cond.code ({ cls := "CliffHoneyModel", name := "fault", desc := "(I)I" } : Jvm.MethodName) prog_23_method_43_code (2 : Nat) (Option.some Jvm.ClassFile.FieldType.int)) ∈ lw_all := lw_g (lw_at lw_m8 231 rfl) rfl
theorem q2010 : (Jvm.Cond.instanceMethod ({ cls := "CliffHoneyModel", name := "ruled", desc := "(II)I" } : Jvm.MethodName)) ∈ lw_all := lw_g (lw_at lw_m8 233 rfl) rfl
theorem q2011 : (Jvm.Cond.selects "CliffHoneyModel" ({ cls := "CliffHoneyModel", name := "ruled", desc := "(II)I" } : Jvm.MethodName) ({ cls := "CliffHoneyModel", name := "ruled", desc := "(II)I" } : Jvm.MethodName)) ∈ lw_all := lw_g (lw_at lw_m8 234 rfl) rfl
theorem q2012 : (Jvm.Cond.code ({ cls := "CliffHoneyModel", name := "ruled", desc := "(II)I" } : Jvm.MethodName) prog_23_method_44_code (3 : Nat) (Option.some Jvm.ClassFile.FieldType.int)) ∈ lw_all := lw_g (lw_at lw_m8 235 rfl) rfl
theorem q2014 : (Jvm.Cond.instanceMethod ({ cls := "CliffHoneyModel", name := "asked", desc := "(III)I" } : Jvm.MethodName)) ∈ lw_all := lw_g (lw_at lw_m8 237 rfl) rfl
theorem q2015 : (Jvm.Cond.selects "CliffHoneyModel" ({ cls := "CliffHoneyModel", name := "asked", desc := "(III)I" } : Jvm.MethodName) ({ cls := "CliffHoneyModel", name := "asked", desc := "(III)I" } : Jvm.MethodName)) ∈ lw_all := lw_g (lw_at lw_m8 238 rfl) rfl
theorem q2016 : (Jvm.Cond.code ({ cls := "CliffHoneyModel", name := "asked", desc := "(III)I" } : Jvm.MethodName) prog_23_method_51_code (4 : Nat) (Option.some Jvm.ClassFile.FieldType.int)) ∈ lw_all := lw_g (lw_at lw_m8 239 rfl) rfl
theorem q2017 : (Jvm.Cond.methodLink "CliffHoneyModel" (446 : Nat) ({ cls := "CliffHoneyModel", name := "isBarred", desc := "(II)Z" } : Jvm.MethodName)) ∈ lw_all := lw_g (lw_at lw_m9 0 rfl) rfl
theorem q2018 : (Jvm.Cond.privateMethod ({ cls := "CliffHoneyModel", name := "isBarred", desc := "(II)Z" } : Jvm.MethodName)) ∈ lw_tbl := lw_at lw_m9 1 rfl
theorem q2019 : (Jvm.Cond.instanceMethod ({ cls := "CliffHoneyModel", name := "isBarred", desc := "(II)Z" } : Jvm.MethodName)) ∈ lw_all := lw_g (lw_at lw_m9 2 rfl) rfl
theorem q2020 : (Jvm.Cond.code ({ cls := "CliffHoneyModel", name := "isBarred", desc := "(II)Z" } : Jvm.MethodName) prog_23_method_48_code (5 : Nat) (Option.some Jvm.ClassFile.FieldType.boolean)) ∈ lw_all := lw_g (lw_at lw_m9 3 rfl) rfl
theorem q2021 : (Jvm.Cond.methodLink "CliffHoneyModel" (439 : Nat) ({ cls := "CliffHoneyModel", name := "comesTo", desc := "(IIII)I" } : Jvm.MethodName)) ∈ lw_all := lw_g (lw_at lw_m9 4 rfl) rfl
theorem q2022 : (Jvm.Cond.privateMethod ({ cls := "CliffHoneyModel", name := "comesTo", desc := "(IIII)I" } : Jvm.MethodName)) ∈ lw_tbl := lw_at lw_m9 5 rfl
theorem q2023 : (Jvm.Cond.instanceMethod ({ cls := "CliffHoneyModel", name := "comesTo", desc := "(IIII)I" } : Jvm.MethodName)) ∈ lw_all := lw_g (lw_at lw_m9 6 rfl) rfl
theorem q2024 : (Jvm.Cond.code ({ cls := "CliffHoneyModel", name := "comesTo", desc := "(IIII)I" } : Jvm.MethodName) prog_23_method_47_code (9 : Nat) (Option.some Jvm.ClassFile.FieldType.int)) ∈ lw_all := lw_g (lw_at lw_m9 7 rfl) rfl
theorem q2025 : (Jvm.Cond.methodLink "CliffHoneyModel" (432 : Nat) ({ cls := "CliffHoneyModel", name := "known", desc := "(III)I" } : Jvm.MethodName)) ∈ lw_all := lw_g (lw_at lw_m9 8 rfl) rfl
theorem q2026 : (Jvm.Cond.privateMethod ({ cls := "CliffHoneyModel", name := "known", desc := "(III)I" } : Jvm.MethodName)) ∈ lw_tbl := lw_at lw_m9 9 rfl
theorem q2027 : (Jvm.Cond.instanceMethod ({ cls := "CliffHoneyModel", name := "known", desc := "(III)I" } : Jvm.MethodName)) ∈ lw_all := lw_g (lw_at lw_m9 10 rfl) rfl
theorem q2028 : (Jvm.Cond.code ({ cls := "CliffHoneyModel", name := "known", desc := "(III)I" } : Jvm.MethodName) prog_23_method_45_code (4 : Nat) (Option.some Jvm.ClassFile.FieldType.int)) ∈ lw_all := lw_g (lw_at lw_m9 11 rfl) rfl
theorem q2029 : (Jvm.Cond.methodLink "CliffHoneyModel" (436 : Nat) ({ cls := "CliffHoneyModel", name := "both", desc := "(III)I" } : Jvm.MethodName)) ∈ lw_all := lw_g (lw_at lw_m9 12 rfl) rfl
theorem q2030 : (Jvm.Cond.static ({ cls := "CliffHoneyModel", name := "both", desc := "(III)I" } : Jvm.MethodName)) ∈ lw_all := lw_g (lw_at lw_m9 13 rfl) rfl
theorem q2031 : (Jvm.Cond.code ({ cls := "CliffHoneyModel", name := "both", desc := "(III)I" } : Jvm.MethodName) prog_23_method_46_code (3 : Nat) (Option.some Jvm.ClassFile.FieldType.int)) ∈ lw_all := lw_g (lw_at lw_m9 14 rfl) rfl
theorem q2032 : (Jvm.Cond.methodLink "CliffHoneyModel" (443 : Nat) ({ cls := "CliffHoneyModel", name := "leaves", desc := "(II)I" } : Jvm.MethodName)) ∈ lw_all := lw_g (lw_at lw_m9 15 rfl) rfl
theorem q2033 : (Jvm.Cond.privateMethod ({ cls := "CliffHoneyModel", name := "leaves", desc := "(II)I" } : Jvm.MethodName)) ∈ lw_tbl := lw_at lw_m9 16 rfl
theorem q2034 : (Jvm.Cond.instanceMethod ({ cls := "CliffHoneyModel", name := "leaves", desc := "(II)I" } : Jvm.MethodName)) ∈ lw_all := lw_g (lw_at lw_m9 17 rfl) rfl
theorem q2035 : (Jvm.Cond.code ({ cls := "CliffHoneyModel", name := "leaves", desc := "(II)I" } : Jvm.MethodName) prog_23_method_49_code (8 : Nat) (Option.some Jvm.ClassFile.FieldType.int)) ∈ lw_all := lw_g (lw_at lw_m9 18 rfl) rfl
theorem q2036 : (Jvm.Cond.methodLink "CliffHoneyModel" (450 : Nat) ({ cls := "CliffHoneyModel", name := "unitsLeft", desc := "(II)I" } : Jvm.MethodName)) ∈ lw_all := lw_g (lw_at lw_m9 19 rfl) rfl
theorem q2037 : (Jvm.Cond.privateMethod ({ cls := "CliffHoneyModel", name := "unitsLeft", desc := "(II)I" } : Jvm.MethodName)) ∈ lw_tbl := lw_at lw_m9 20 rfl
theorem q2038 : (Jvm.Cond.instanceMethod ({ cls := "CliffHoneyModel", name := "unitsLeft", desc := "(II)I" } : Jvm.MethodName)) ∈ lw_all := lw_g (lw_at lw_m9 21 rfl) rfl
theorem q2039 : (Jvm.Cond.code ({ cls := "CliffHoneyModel", name := "unitsLeft", desc := "(II)I" } : Jvm.MethodName) prog_23_method_50_code (3 : Nat) (Option.some Jvm.ClassFile.FieldType.int)) ∈ lw_all := lw_g (lw_at lw_m9 22 rfl) rfl
theorem q2041 : (Jvm.Cond.instanceMethod ({ cls := "CliffHoneyModel", name := "ladder", desc := "(II)I" } : Jvm.MethodName)) ∈ lw_all := lw_g (lw_at lw_m9 24 rfl) rfl
theorem q2042 : (Jvm.Cond.selects "CliffHoneyModel" ({ cls := "CliffHoneyModel", name := "ladder", desc := "(II)I" } : Jvm.MethodName) ({ cls := "CliffHoneyModel", name := "ladder", desc := "(II)I" } : Jvm.MethodName)) ∈ lw_all := lw_g (lw_at lw_m9 25 rfl) rfl
theorem q2043 : (Jvm.Cond.code ({ cls := "CliffHoneyModel", name := "ladder", desc := "(II)I" } : Jvm.MethodName) prog_23_method_52_code (3 : Nat) (Option.some Jvm.ClassFile.FieldType.int)) ∈ lw_all := lw_g (lw_at lw_m9 26 rfl) rfl
theorem q2045 : (Jvm.Cond.instanceMethod ({ cls := "CliffHoneyModel", name := "rung", desc := "(II)I" } : Jvm.MethodName)) ∈ lw_all := lw_g (lw_at lw_m9 28 rfl) rfl
theorem q2046 : (Jvm.Cond.selects "CliffHoneyModel" ({ cls := "CliffHoneyModel", name := "rung", desc := "(II)I" } : Jvm.MethodName) ({ cls := "CliffHoneyModel", name := "rung", desc := "(II)I" } : Jvm.MethodName)) ∈ lw_all := lw_g (lw_at lw_m9 29 rfl) rfl
theorem q2047 : (Jvm.Cond.code ({ cls := "CliffHoneyModel", name := "rung", desc := "(II)I" } : Jvm.MethodName) prog_23_method_56_code (3 : Nat) (Option.some Jvm.ClassFile.FieldType.int)) ∈ lw_all := lw_g (lw_at lw_m9 30 rfl) rfl
theorem q2048 : (Jvm.Cond.methodLink "CliffHoneyModel" (459 : Nat) ({ cls := "CliffHoneyModel", name := "isLadder", desc := "(I)Z" } : Jvm.MethodName)) ∈ lw_all := lw_g (lw_at lw_m9 31 rfl) rfl
theorem q2049 : (Jvm.Cond.privateMethod ({ cls := "CliffHoneyModel", name := "isLadder", desc := "(I)Z" } : Jvm.MethodName)) ∈ lw_tbl := lw_at lw_m9 32 rfl
theorem q2050 : (Jvm.Cond.instanceMethod ({ cls := "CliffHoneyModel", name := "isLadder", desc := "(I)Z" } : Jvm.MethodName)) ∈ lw_all := lw_g (lw_at lw_m9 33 rfl) rfl
theorem q2051 : (Jvm.Cond.code ({ cls := "CliffHoneyModel", name := "isLadder", desc := "(I)Z" } : Jvm.MethodName) prog_23_method_53_code (2 : Nat) (Option.some Jvm.ClassFile.FieldType.boolean)) ∈ lw_all := lw_g (lw_at lw_m9 34 rfl) rfl
theorem q2052 : (Jvm.Cond.methodLink "CliffHoneyModel" (456 : Nat) ({ cls := "CliffHoneyModel", name := "age", desc := "(I)I" } : Jvm.MethodName)) ∈ lw_all := lw_g (lw_at lw_m9 35 rfl) rfl
theorem q2053 : (Jvm.Cond.privateMethod ({ cls := "CliffHoneyModel", name := "age", desc := "(I)I" } : Jvm.MethodName)) ∈ lw_tbl := lw_at lw_m9 36 rfl
theorem q2054 : (Jvm.Cond.instanceMethod ({ cls := "CliffHoneyModel", name := "age", desc := "(I)I" } : Jvm.MethodName)) ∈ lw_all := lw_g (lw_at lw_m9 37 rfl) rfl
theorem q2055 : (Jvm.Cond.code ({ cls := "CliffHoneyModel", name := "age", desc := "(I)I" } : Jvm.MethodName) prog_23_method_54_code (2 : Nat) (Option.some Jvm.ClassFile.FieldType.int)) ∈ lw_all := lw_g (lw_at lw_m9 38 rfl) rfl
theorem q2056 : (Jvm.Cond.methodLink "CliffHoneyModel" (462 : Nat) ({ cls := "CliffHoneyModel", name := "bears", desc := "(I)I" } : Jvm.MethodName)) ∈ lw_all := lw_g (lw_at lw_m9 39 rfl) rfl
theorem q2057 : (Jvm.Cond.privateMethod ({ cls := "CliffHoneyModel", name := "bears", desc := "(I)I" } : Jvm.MethodName)) ∈ lw_tbl := lw_at lw_m9 40 rfl
theorem q2058 : (Jvm.Cond.instanceMethod ({ cls := "CliffHoneyModel", name := "bears", desc := "(I)I" } : Jvm.MethodName)) ∈ lw_all := lw_g (lw_at lw_m9 41 rfl) rfl
theorem q2059 : (Jvm.Cond.code ({ cls := "CliffHoneyModel", name := "bears", desc := "(I)I" } : Jvm.MethodName) prog_23_method_55_code (2 : Nat) (Option.some Jvm.ClassFile.FieldType.int)) ∈ lw_all := lw_g (lw_at lw_m9 42 rfl) rfl
theorem q2061 : (Jvm.Cond.instanceMethod ({ cls := "CliffHoneyModel", name := "reach", desc := "(III)I" } : Jvm.MethodName)) ∈ lw_all := lw_g (lw_at lw_m9 44 rfl) rfl
theorem q2062 : (Jvm.Cond.selects "CliffHoneyModel" ({ cls := "CliffHoneyModel", name := "reach", desc := "(III)I" } : Jvm.MethodName) ({ cls := "CliffHoneyModel", name := "reach", desc := "(III)I" } : Jvm.MethodName)) ∈ lw_all := lw_g (lw_at lw_m9 45 rfl) rfl
theorem q2063 : (Jvm.Cond.code ({ cls := "CliffHoneyModel", name := "reach", desc := "(III)I" } : Jvm.MethodName) prog_23_method_60_code (4 : Nat) (Option.some Jvm.ClassFile.FieldType.int)) ∈ lw_all := lw_g (lw_at lw_m9 46 rfl) rfl
theorem q2064 : (Jvm.Cond.methodLink "CliffHoneyModel" (469 : Nat) ({ cls := "CliffHoneyModel", name := "canHang", desc := "(III)Z" } : Jvm.MethodName)) ∈ lw_all := lw_g (lw_at lw_m9 47 rfl) rfl
theorem q2065 : (Jvm.Cond.privateMethod ({ cls := "CliffHoneyModel", name := "canHang", desc := "(III)Z" } : Jvm.MethodName)) ∈ lw_tbl := lw_at lw_m9 48 rfl
theorem q2066 : (Jvm.Cond.instanceMethod ({ cls := "CliffHoneyModel", name := "canHang", desc := "(III)Z" } : Jvm.MethodName)) ∈ lw_all := lw_g (lw_at lw_m9 49 rfl) rfl
theorem q2067 : (Jvm.Cond.code ({ cls := "CliffHoneyModel", name := "canHang", desc := "(III)Z" } : Jvm.MethodName) prog_23_method_59_code (4 : Nat) (Option.some Jvm.ClassFile.FieldType.boolean)) ∈ lw_all := lw_g (lw_at lw_m9 50 rfl) rfl
theorem q2068 : (Jvm.Cond.methodLink "CliffHoneyModel" (472 : Nat) ({ cls := "CliffHoneyModel", name := "reached", desc := "(III)I" } : Jvm.MethodName)) ∈ lw_all := lw_g (lw_at lw_m9 51 rfl) rfl
theorem q2069 : (Jvm.Cond.privateMethod ({ cls := "CliffHoneyModel", name := "reached", desc := "(III)I" } : Jvm.MethodName)) ∈ lw_tbl := lw_at lw_m9 52 rfl
theorem q2070 : (Jvm.Cond.instanceMethod ({ cls := "CliffHoneyModel", name := "reached", desc := "(III)I" } : Jvm.MethodName)) ∈ lw_all := lw_g (lw_at lw_m9 53 rfl) rfl
theorem q2071 : (Jvm.Cond.code ({ cls := "CliffHoneyModel", name := "reached", desc := "(III)I" } : Jvm.MethodName) prog_23_method_58_code (6 : Nat) (Option.some Jvm.ClassFile.FieldType.int)) ∈ lw_all := lw_g (lw_at lw_m9 54 rfl) rfl
theorem q2072 : (Jvm.Cond.methodLink "CliffHoneyModel" (465 : Nat) ({ cls := "CliffHoneyModel", name := "isReached", desc := "(IIII)Z" } : Jvm.MethodName)) ∈ lw_all := lw_g (lw_at lw_m9 55 rfl) rfl
theorem q2073 : (Jvm.Cond.privateMethod ({ cls := "CliffHoneyModel", name := "isReached", desc := "(IIII)Z" } : Jvm.MethodName)) ∈ lw_tbl := lw_at lw_m9 56 rfl
theorem q2074 : (Jvm.Cond.instanceMethod ({ cls := "CliffHoneyModel", name := "isReached", desc := "(IIII)Z" } : Jvm.MethodName)) ∈ lw_all := lw_g (lw_at lw_m9 57 rfl) rfl
theorem q2075 : (Jvm.Cond.code ({ cls := "CliffHoneyModel", name := "isReached", desc := "(IIII)Z" } : Jvm.MethodName) prog_23_method_57_code (6 : Nat) (Option.some Jvm.ClassFile.FieldType.boolean)) ∈ lw_all := lw_g (lw_at lw_m9 58 rfl) rfl
theorem q2077 : (Jvm.Cond.instanceMethod ({ cls := "CliffHoneyModel", name := "row", desc := "(IIII)I" } : Jvm.MethodName)) ∈ lw_all := lw_g (lw_at lw_m9 60 rfl) rfl
theorem q2078 : (Jvm.Cond.selects "CliffHoneyModel" ({ cls := "CliffHoneyModel", name := "row", desc := "(IIII)I" } : Jvm.MethodName) ({ cls := "CliffHoneyModel", name := "row", desc := "(IIII)I" } : Jvm.MethodName)) ∈ lw_all := lw_g (lw_at lw_m9 61 rfl) rfl
theorem q2079 : (Jvm.Cond.code ({ cls := "CliffHoneyModel", name := "row", desc := "(IIII)I" } : Jvm.MethodName) prog_23_method_64_code (5 : Nat) (Option.some Jvm.ClassFile.FieldType.int)) ∈ lw_all := lw_g (lw_at lw_m9 62 rfl) rfl
theorem q2080 : (Jvm.Cond.methodLink "CliffHoneyModel" (496 : Nat) ({ cls := "CliffHoneyModel", name := "rows", desc := "(III)V" } : Jvm.MethodName)) ∈ lw_all := lw_g (lw_at lw_m9 63 rfl) rfl
theorem q2081 : (Jvm.Cond.privateMethod ({ cls := "CliffHoneyModel", name := "rows", desc := "(III)V" } : Jvm.MethodName)) ∈ lw_tbl := lw_at lw_m9 64 rfl
theorem q2082 : (Jvm.Cond.instanceMethod ({ cls := "CliffHoneyModel", name := "rows", desc := "(III)V" } : Jvm.MethodName)) ∈ lw_all := lw_g (lw_at lw_m9 65 rfl) rfl
theorem q2083 : (Jvm.Cond.code ({ cls := "CliffHoneyModel", name := "rows", desc := "(III)V" } : Jvm.MethodName) prog_23_method_62_code (13 : Nat) (Option.none : Option Jvm.ClassFile.FieldType)) ∈ lw_all := lw_g (lw_at lw_m9 66 rfl) rfl
theorem q2084 : (Jvm.Cond.methodLink "CliffHoneyModel" (490 : Nat) ({ cls := "CliffHoneyModel", name := "isSmoked", desc := "(II)Z" } : Jvm.MethodName)) ∈ lw_all := lw_g (lw_at lw_m9 67 rfl) rfl
theorem q2085 : (Jvm.Cond.privateMethod ({ cls := "CliffHoneyModel", name := "isSmoked", desc := "(II)Z" } : Jvm.MethodName)) ∈ lw_tbl := lw_at lw_m9 68 rfl
theorem q2086 : (Jvm.Cond.instanceMethod ({ cls := "CliffHoneyModel", name := "isSmoked", desc := "(II)Z" } : Jvm.MethodName)) ∈ lw_all := lw_g (lw_at lw_m9 69 rfl) rfl
theorem q2087 : (Jvm.Cond.code ({ cls := "CliffHoneyModel", name := "isSmoked", desc := "(II)Z" } : Jvm.MethodName) prog_23_method_61_code (5 : Nat) (Option.some Jvm.ClassFile.FieldType.boolean)) ∈ lw_all := lw_g (lw_at lw_m9 70 rfl) rfl
theorem q2088 : (Jvm.Cond.methodLink "CliffHoneyModel" (493 : Nat) ({ cls := "CliffHoneyModel", name := "takesRow", desc := "(II)V" } : Jvm.MethodName)) ∈ lw_all := lw_g (lw_at lw_m9 71 rfl) rfl
theorem q2089 : (Jvm.Cond.privateMethod ({ cls := "CliffHoneyModel", name := "takesRow", desc := "(II)V" } : Jvm.MethodName)) ∈ lw_tbl := lw_at lw_m9 72 rfl
theorem q2090 : (Jvm.Cond.instanceMethod ({ cls := "CliffHoneyModel", name := "takesRow", desc := "(II)V" } : Jvm.MethodName)) ∈ lw_all := lw_g (lw_at lw_m9 73 rfl) rfl
theorem q2091 : (Jvm.Cond.code ({ cls := "CliffHoneyModel", name := "takesRow", desc := "(II)V" } : Jvm.MethodName) prog_23_method_63_code (4 : Nat) (Option.none : Option Jvm.ClassFile.FieldType)) ∈ lw_all := lw_g (lw_at lw_m9 74 rfl) rfl
theorem q2093 : (Jvm.Cond.instanceMethod ({ cls := "CliffHoneyModel", name := "person", desc := "(I)I" } : Jvm.MethodName)) ∈ lw_all := lw_g (lw_at lw_m9 76 rfl) rfl
theorem q2094 : (Jvm.Cond.selects "CliffHoneyModel" ({ cls := "CliffHoneyModel", name := "person", desc := "(I)I" } : Jvm.MethodName) ({ cls := "CliffHoneyModel", name := "person", desc := "(I)I" } : Jvm.MethodName)) ∈ lw_all := lw_g (lw_at lw_m9 77 rfl) rfl
theorem q2095 : (Jvm.Cond.code ({ cls := "CliffHoneyModel", name := "person", desc := "(I)I" } : Jvm.MethodName) prog_23_method_67_code (2 : Nat) (Option.some Jvm.ClassFile.FieldType.int)) ∈ lw_all := lw_g (lw_at lw_m9 78 rfl) rfl
theorem q2097 : (Jvm.Cond.instanceMethod ({ cls := "CliffHoneyModel", name := "heir", desc := "(II)Z" } : Jvm.MethodName)) ∈ lw_all := lw_g (lw_at lw_m9 80 rfl) rfl
theorem q2098 : (Jvm.Cond.selects "CliffHoneyModel" ({ cls := "CliffHoneyModel", name := "heir", desc := "(II)Z" } : Jvm.MethodName) ({ cls := "CliffHoneyModel", name := "heir", desc := "(II)Z" } : Jvm.MethodName)) ∈ lw_all := lw_g (lw_at lw_m9 81 rfl) rfl
theorem q2099 : (Jvm.Cond.code ({ cls := "CliffHoneyModel", name := "heir", desc := "(II)Z" } : Jvm.MethodName) prog_23_method_68_code (3 : Nat) (Option.some Jvm.ClassFile.FieldType.boolean)) ∈ lw_all := lw_g (lw_at lw_m9 82 rfl) rfl
theorem q2101 : (Jvm.Cond.instanceMethod ({ cls := "CliffHoneyModel", name := "dies", desc := "(I)Z" } : Jvm.MethodName)) ∈ lw_all := lw_g (lw_at lw_m9 84 rfl) rfl
theorem q2102 : (Jvm.Cond.selects "CliffHoneyModel" ({ cls := "CliffHoneyModel", name := "dies", desc := "(I)Z" } : Jvm.MethodName) ({ cls := "CliffHoneyModel", name := "dies", desc := "(I)Z" } : Jvm.MethodName)) ∈ lw_all := lw_g (lw_at lw_m9 85 rfl) rfl
theorem q2103 : (Jvm.Cond.code ({ cls := "CliffHoneyModel", name := "dies", desc := "(I)Z" } : Jvm.MethodName) prog_23_method_69_code (4 : Nat) (Option.some Jvm.ClassFile.FieldType.boolean)) ∈ lw_all := lw_g (lw_at lw_m9 86 rfl) rfl
theorem q2104 : (Jvm.Cond.methodLink "CliffHoneyModel" (503 : Nat) ({ cls := "CliffHoneyModel", name := "isLiving", desc := "(I)Z" } : Jvm.MethodName)) ∈ lw_all := lw_g (lw_at lw_m9 87 rfl) rfl
theorem q2105 : (Jvm.Cond.privateMethod ({ cls := "CliffHoneyModel", name := "isLiving", desc := "(I)Z" } : Jvm.MethodName)) ∈ lw_tbl := lw_at lw_m9 88 rfl
theorem q2106 : (Jvm.Cond.instanceMethod ({ cls := "CliffHoneyModel", name := "isLiving", desc := "(I)Z" } : Jvm.MethodName)) ∈ lw_all := lw_g (lw_at lw_m9 89 rfl) rfl
theorem q2107 : (Jvm.Cond.code ({ cls := "CliffHoneyModel", name := "isLiving", desc := "(I)Z" } : Jvm.MethodName) prog_23_method_66_code (2 : Nat) (Option.some Jvm.ClassFile.FieldType.boolean)) ∈ lw_all := lw_g (lw_at lw_m9 90 rfl) rfl
theorem q2109 : (Jvm.Cond.instanceMethod ({ cls := "CliffHoneyModel", name := "gives", desc := "(I)Z" } : Jvm.MethodName)) ∈ lw_all := lw_g (lw_at lw_m9 92 rfl) rfl
theorem q2110 : (Jvm.Cond.selects "CliffHoneyModel" ({ cls := "CliffHoneyModel", name := "gives", desc := "(I)Z" } : Jvm.MethodName) ({ cls := "CliffHoneyModel", name := "gives", desc := "(I)Z" } : Jvm.MethodName)) ∈ lw_all := lw_g (lw_at lw_m9 93 rfl) rfl
theorem q2111 : (Jvm.Cond.code ({ cls := "CliffHoneyModel", name := "gives", desc := "(I)Z" } : Jvm.MethodName) prog_23_method_70_code (2 : Nat) (Option.some Jvm.ClassFile.FieldType.boolean)) ∈ lw_all := lw_g (lw_at lw_m9 94 rfl) rfl
theorem q2113 : (Jvm.Cond.instanceMethod ({ cls := "CliffHoneyModel", name := "whoIs", desc := "(II)I" } : Jvm.MethodName)) ∈ lw_all := lw_g (lw_at lw_m9 96 rfl) rfl
theorem q2114 : (Jvm.Cond.selects "CliffHoneyModel" ({ cls := "CliffHoneyModel", name := "whoIs", desc := "(II)I" } : Jvm.MethodName) ({ cls := "CliffHoneyModel", name := "whoIs", desc := "(II)I" } : Jvm.MethodName)) ∈ lw_all := lw_g (lw_at lw_m9 97 rfl) rfl
theorem q2115 : (Jvm.Cond.code ({ cls := "CliffHoneyModel", name := "whoIs", desc := "(II)I" } : Jvm.MethodName) prog_23_method_71_code (3 : Nat) (Option.some Jvm.ClassFile.FieldType.int)) ∈ lw_all := lw_g (lw_at lw_m9 98 rfl) rfl
theorem q2117 : (Jvm.Cond.instanceMethod ({ cls := "CliffHoneyModel", name := "cut", desc := "(IIII)I" } : Jvm.MethodName)) ∈ lw_all := lw_g (lw_at lw_m9 100 rfl) rfl
theorem q2118 : (Jvm.Cond.selects "CliffHoneyModel" ({ cls := "CliffHoneyModel", name := "cut", desc := "(IIII)I" } : Jvm.MethodName) ({ cls := "CliffHoneyModel", name := "cut", desc := "(IIII)I" } : Jvm.MethodName)) ∈ lw_all := lw_g (lw_at lw_m9 101 rfl) rfl
theorem q2119 : (Jvm.Cond.code ({ cls := "CliffHoneyModel", name := "cut", desc := "(IIII)I" } : Jvm.MethodName) prog_23_method_73_code (12 : Nat) (Option.some Jvm.ClassFile.FieldType.int)) ∈ lw_all := lw_g (lw_at lw_m9 102 rfl) rfl
theorem q2120 : (Jvm.Cond.methodLink "CliffHoneyModel" (506 : Nat) ({ cls := "CliffHoneyModel", name := "comes", desc := "(III)I" } : Jvm.MethodName)) ∈ lw_all := lw_g (lw_at lw_m9 103 rfl) rfl
theorem q2121 : (Jvm.Cond.privateMethod ({ cls := "CliffHoneyModel", name := "comes", desc := "(III)I" } : Jvm.MethodName)) ∈ lw_tbl := lw_at lw_m9 104 rfl
theorem q2122 : (Jvm.Cond.instanceMethod ({ cls := "CliffHoneyModel", name := "comes", desc := "(III)I" } : Jvm.MethodName)) ∈ lw_all := lw_g (lw_at lw_m9 105 rfl) rfl
theorem q2123 : (Jvm.Cond.code ({ cls := "CliffHoneyModel", name := "comes", desc := "(III)I" } : Jvm.MethodName) prog_23_method_72_code (6 : Nat) (Option.some Jvm.ClassFile.FieldType.int)) ∈ lw_all := lw_g (lw_at lw_m9 106 rfl) rfl
theorem q2125 : (Jvm.Cond.instanceMethod ({ cls := "CliffHoneyModel", name := "lot", desc := "(II)I" } : Jvm.MethodName)) ∈ lw_all := lw_g (lw_at lw_m9 108 rfl) rfl
theorem q2126 : (Jvm.Cond.selects "CliffHoneyModel" ({ cls := "CliffHoneyModel", name := "lot", desc := "(II)I" } : Jvm.MethodName) ({ cls := "CliffHoneyModel", name := "lot", desc := "(II)I" } : Jvm.MethodName)) ∈ lw_all := lw_g (lw_at lw_m9 109 rfl) rfl
theorem q2127 : (Jvm.Cond.code ({ cls := "CliffHoneyModel", name := "lot", desc := "(II)I" } : Jvm.MethodName) prog_23_method_75_code (3 : Nat) (Option.some Jvm.ClassFile.FieldType.int)) ∈ lw_all := lw_g (lw_at lw_m9 110 rfl) rfl
theorem q2129 : (Jvm.Cond.instanceMethod ({ cls := "CliffHoneyModel", name := "taste", desc := "(III)I" } : Jvm.MethodName)) ∈ lw_all := lw_g (lw_at lw_m9 112 rfl) rfl
theorem q2130 : (Jvm.Cond.selects "CliffHoneyModel" ({ cls := "CliffHoneyModel", name := "taste", desc := "(III)I" } : Jvm.MethodName) ({ cls := "CliffHoneyModel", name := "taste", desc := "(III)I" } : Jvm.MethodName)) ∈ lw_all := lw_g (lw_at lw_m9 113 rfl) rfl
theorem q2131 : (Jvm.Cond.code ({ cls := "CliffHoneyModel", name := "taste", desc := "(III)I" } : Jvm.MethodName) prog_23_method_77_code (6 : Nat) (Option.some Jvm.ClassFile.FieldType.int)) ∈ lw_all := lw_g (lw_at lw_m9 114 rfl) rfl
theorem q2132 : (Jvm.Cond.methodLink "CliffHoneyModel" (509 : Nat) ({ cls := "CliffHoneyModel", name := "isLot", desc := "(I)Z" } : Jvm.MethodName)) ∈ lw_all := lw_g (lw_at lw_m9 115 rfl) rfl
theorem q2133 : (Jvm.Cond.privateMethod ({ cls := "CliffHoneyModel", name := "isLot", desc := "(I)Z" } : Jvm.MethodName)) ∈ lw_tbl := lw_at lw_m9 116 rfl
theorem q2134 : (Jvm.Cond.instanceMethod ({ cls := "CliffHoneyModel", name := "isLot", desc := "(I)Z" } : Jvm.MethodName)) ∈ lw_all := lw_g (lw_at lw_m9 117 rfl) rfl
theorem q2135 : (Jvm.Cond.code ({ cls := "CliffHoneyModel", name := "isLot", desc := "(I)Z" } : Jvm.MethodName) prog_23_method_74_code (2 : Nat) (Option.some Jvm.ClassFile.FieldType.boolean)) ∈ lw_all := lw_g (lw_at lw_m9 118 rfl) rfl
theorem q2136 : (Jvm.Cond.methodLink "CliffHoneyModel" (512 : Nat) ({ cls := "CliffHoneyModel", name := "isSpan", desc := "(II)Z" } : Jvm.MethodName)) ∈ lw_all := lw_g (lw_at lw_m9 119 rfl) rfl
theorem q2137 : (Jvm.Cond.static ({ cls := "CliffHoneyModel", name := "isSpan", desc := "(II)Z" } : Jvm.MethodName)) ∈ lw_all := lw_g (lw_at lw_m9 120 rfl) rfl
theorem q2138 : (Jvm.Cond.code ({ cls := "CliffHoneyModel", name := "isSpan", desc := "(II)Z" } : Jvm.MethodName) prog_23_method_76_code (2 : Nat) (Option.some Jvm.ClassFile.FieldType.boolean)) ∈ lw_all := lw_g (lw_at lw_m9 121 rfl) rfl
theorem q2140 : (Jvm.Cond.instanceMethod ({ cls := "CliffHoneyModel", name := "mix", desc := "(II)I" } : Jvm.MethodName)) ∈ lw_all := lw_g (lw_at lw_m9 123 rfl) rfl
theorem q2141 : (Jvm.Cond.selects "CliffHoneyModel" ({ cls := "CliffHoneyModel", name := "mix", desc := "(II)I" } : Jvm.MethodName) ({ cls := "CliffHoneyModel", name := "mix", desc := "(II)I" } : Jvm.MethodName)) ∈ lw_all := lw_g (lw_at lw_m9 124 rfl) rfl
theorem q2142 : (Jvm.Cond.code ({ cls := "CliffHoneyModel", name := "mix", desc := "(II)I" } : Jvm.MethodName) prog_23_method_78_code (4 : Nat) (Option.some Jvm.ClassFile.FieldType.int)) ∈ lw_all := lw_g (lw_at lw_m9 125 rfl) rfl
theorem q2144 : (Jvm.Cond.instanceMethod ({ cls := "CliffHoneyModel", name := "buyer", desc := "(IIII)I" } : Jvm.MethodName)) ∈ lw_all := lw_g (lw_at lw_m9 127 rfl) rfl
theorem q2145 : (Jvm.Cond.selects "CliffHoneyModel" ({ cls := "CliffHoneyModel", name := "buyer", desc := "(IIII)I" } : Jvm.MethodName) ({ cls := "CliffHoneyModel", name := "buyer", desc := "(IIII)I" } : Jvm.MethodName)) ∈ lw_all := lw_g (lw_at lw_m9 128 rfl) rfl
theorem q2146 : (Jvm.Cond.code ({ cls := "CliffHoneyModel", name := "buyer", desc := "(IIII)I" } : Jvm.MethodName) prog_23_method_79_code (5 : Nat) (Option.some Jvm.ClassFile.FieldType.int)) ∈ lw_all := lw_g (lw_at lw_m9 129 rfl) rfl
theorem q2147 : (Jvm.Cond.constant "CliffHoneyModel" (515 : Nat) (99999 : Int32)) ∈ lw_all := lw_g (lw_at lw_m9 130 rfl) rfl
theorem q2149 : (Jvm.Cond.instanceMethod ({ cls := "CliffHoneyModel", name := "sale", desc := "(I)I" } : Jvm.MethodName)) ∈ lw_all := lw_g (lw_at lw_m9 132 rfl) rfl
theorem q2150 : (Jvm.Cond.selects "CliffHoneyModel" ({ cls := "CliffHoneyModel", name := "sale", desc := "(I)I" } : Jvm.MethodName) ({ cls := "CliffHoneyModel", name := "sale", desc := "(I)I" } : Jvm.MethodName)) ∈ lw_all := lw_g (lw_at lw_m9 133 rfl) rfl
theorem q2151 : (Jvm.Cond.code ({ cls := "CliffHoneyModel", name := "sale", desc := "(I)I" } : Jvm.MethodName) prog_23_method_82_code (3 : Nat) (Option.some Jvm.ClassFile.FieldType.int)) ∈ lw_all := lw_g (lw_at lw_m9 134 rfl) rfl
theorem q2152 : (Jvm.Cond.methodLink "CliffHoneyModel" (531 : Nat) ({ cls := "CliffHoneyModel", name := "sales", desc := "()V" } : Jvm.MethodName)) ∈ lw_all := lw_g (lw_at lw_m9 135 rfl) rfl
theorem q2153 : (Jvm.Cond.privateMethod ({ cls := "CliffHoneyModel", name := "sales", desc := "()V" } : Jvm.MethodName)) ∈ lw_tbl := lw_at lw_m9 136 rfl
theorem q2154 : (Jvm.Cond.instanceMethod ({ cls := "CliffHoneyModel", name := "sales", desc := "()V" } : Jvm.MethodName)) ∈ lw_all := lw_g (lw_at lw_m9 137 rfl) rfl
theorem q2155 : (Jvm.Cond.code ({ cls := "CliffHoneyModel", name := "sales", desc := "()V" } : Jvm.MethodName) prog_23_method_80_code (2 : Nat) (Option.none : Option Jvm.ClassFile.FieldType)) ∈ lw_all := lw_g (lw_at lw_m9 138 rfl) rfl
theorem q2156 : (Jvm.Cond.methodLink "CliffHoneyModel" (525 : Nat) ({ cls := "CliffHoneyModel", name := "offers", desc := "(III)V" } : Jvm.MethodName)) ∈ lw_all := lw_g (lw_at lw_m9 139 rfl) rfl
theorem q2157 : (Jvm.Cond.privateMethod ({ cls := "CliffHoneyModel", name := "offers", desc := "(III)V" } : Jvm.MethodName)) ∈ lw_tbl := lw_at lw_m9 140 rfl
theorem q2158 : (Jvm.Cond.instanceMethod ({ cls := "CliffHoneyModel", name := "offers", desc := "(III)V" } : Jvm.MethodName)) ∈ lw_all := lw_g (lw_at lw_m9 141 rfl) rfl
theorem q2159 : (Jvm.Cond.code ({ cls := "CliffHoneyModel", name := "offers", desc := "(III)V" } : Jvm.MethodName) prog_23_method_81_code (6 : Nat) (Option.none : Option Jvm.ClassFile.FieldType)) ∈ lw_all := lw_g (lw_at lw_m9 142 rfl) rfl
theorem q2161 : (Jvm.Cond.instanceMethod ({ cls := "CliffHoneyModel", name := "sell", desc := "()I" } : Jvm.MethodName)) ∈ lw_all := lw_g (lw_at lw_m9 144 rfl) rfl
theorem q2162 : (Jvm.Cond.selects "CliffHoneyModel" ({ cls := "CliffHoneyModel", name := "sell", desc := "()I" } : Jvm.MethodName) ({ cls := "CliffHoneyModel", name := "sell", desc := "()I" } : Jvm.MethodName)) ∈ lw_all := lw_g (lw_at lw_m9 145 rfl) rfl
theorem q2163 : (Jvm.Cond.code ({ cls := "CliffHoneyModel", name := "sell", desc := "()I" } : Jvm.MethodName) prog_23_method_85_code (4 : Nat) (Option.some Jvm.ClassFile.FieldType.int)) ∈ lw_all := lw_g (lw_at lw_m9 146 rfl) rfl
theorem q2164 : (Jvm.Cond.methodLink "CliffHoneyModel" (534 : Nat) ({ cls := "CliffHoneyModel", name := "pays", desc := "(II)I" } : Jvm.MethodName)) ∈ lw_all := lw_g (lw_at lw_m9 147 rfl) rfl
theorem q2165 : (Jvm.Cond.privateMethod ({ cls := "CliffHoneyModel", name := "pays", desc := "(II)I" } : Jvm.MethodName)) ∈ lw_tbl := lw_at lw_m9 148 rfl
theorem q2166 : (Jvm.Cond.instanceMethod ({ cls := "CliffHoneyModel", name := "pays", desc := "(II)I" } : Jvm.MethodName)) ∈ lw_all := lw_g (lw_at lw_m9 149 rfl) rfl
theorem q2167 : (Jvm.Cond.code ({ cls := "CliffHoneyModel", name := "pays", desc := "(II)I" } : Jvm.MethodName) prog_23_method_83_code (8 : Nat) (Option.some Jvm.ClassFile.FieldType.int)) ∈ lw_all := lw_g (lw_at lw_m9 150 rfl) rfl
theorem q2168 : (Jvm.Cond.methodLink "CliffHoneyModel" (537 : Nat) ({ cls := "CliffHoneyModel", name := "share", desc := "(III)I" } : Jvm.MethodName)) ∈ lw_all := lw_g (lw_at lw_m9 151 rfl) rfl
theorem q2169 : (Jvm.Cond.privateMethod ({ cls := "CliffHoneyModel", name := "share", desc := "(III)I" } : Jvm.MethodName)) ∈ lw_tbl := lw_at lw_m9 152 rfl
theorem q2170 : (Jvm.Cond.instanceMethod ({ cls := "CliffHoneyModel", name := "share", desc := "(III)I" } : Jvm.MethodName)) ∈ lw_all := lw_g (lw_at lw_m9 153 rfl) rfl
theorem q2171 : (Jvm.Cond.code ({ cls := "CliffHoneyModel", name := "share", desc := "(III)I" } : Jvm.MethodName) prog_23_method_84_code (4 : Nat) (Option.some Jvm.ClassFile.FieldType.int)) ∈ lw_all := lw_g (lw_at lw_m9 154 rfl) rfl
theorem q2172 : (Jvm.Cond.methodLink "CliffHoneyModel" (540 : Nat) ({ cls := "CliffHoneyModel", name := "whoseIs", desc := "(III)I" } : Jvm.MethodName)) ∈ lw_all := lw_g (lw_at lw_m9 155 rfl) rfl
theorem q2173 : (Jvm.Cond.privateMethod ({ cls := "CliffHoneyModel", name := "whoseIs", desc := "(III)I" } : Jvm.MethodName)) ∈ lw_tbl := lw_at lw_m9 156 rfl
theorem q2174 : (Jvm.Cond.instanceMethod ({ cls := "CliffHoneyModel", name := "whoseIs", desc := "(III)I" } : Jvm.MethodName)) ∈ lw_all := lw_g (lw_at lw_m9 157 rfl) rfl
theorem q2175 : (Jvm.Cond.code ({ cls := "CliffHoneyModel", name := "whoseIs", desc := "(III)I" } : Jvm.MethodName) prog_23_method_88_code (6 : Nat) (Option.some Jvm.ClassFile.FieldType.int)) ∈ lw_all := lw_g (lw_at lw_m9 158 rfl) rfl
theorem q2177 : (Jvm.Cond.instanceMethod ({ cls := "CliffHoneyModel", name := "village", desc := "(I)I" } : Jvm.MethodName)) ∈ lw_all := lw_g (lw_at lw_m9 160 rfl) rfl
theorem q2178 : (Jvm.Cond.selects "CliffHoneyModel" ({ cls := "CliffHoneyModel", name := "village", desc := "(I)I" } : Jvm.MethodName) ({ cls := "CliffHoneyModel", name := "village", desc := "(I)I" } : Jvm.MethodName)) ∈ lw_all := lw_g (lw_at lw_m9 161 rfl) rfl
theorem q2179 : (Jvm.Cond.code ({ cls := "CliffHoneyModel", name := "village", desc := "(I)I" } : Jvm.MethodName) prog_23_method_86_code (2 : Nat) (Option.some Jvm.ClassFile.FieldType.int)) ∈ lw_all := lw_g (lw_at lw_m9 162 rfl) rfl
theorem q2181 : (Jvm.Cond.instanceMethod ({ cls := "CliffHoneyModel", name := "claim", desc := "(III)I" } : Jvm.MethodName)) ∈ lw_all := lw_g (lw_at lw_m9 164 rfl) rfl
theorem q2182 : (Jvm.Cond.selects "CliffHoneyModel" ({ cls := "CliffHoneyModel", name := "claim", desc := "(III)I" } : Jvm.MethodName) ({ cls := "CliffHoneyModel", name := "claim", desc := "(III)I" } : Jvm.MethodName)) ∈ lw_all := lw_g (lw_at lw_m9 165 rfl) rfl
theorem q2183 : (Jvm.Cond.code ({ cls := "CliffHoneyModel", name := "claim", desc := "(III)I" } : Jvm.MethodName) prog_23_method_87_code (4 : Nat) (Option.some Jvm.ClassFile.FieldType.int)) ∈ lw_all := lw_g (lw_at lw_m9 166 rfl) rfl
theorem q2185 : (Jvm.Cond.instanceMethod ({ cls := "CliffHoneyModel", name := "whose", desc := "(III)I" } : Jvm.MethodName)) ∈ lw_all := lw_g (lw_at lw_m9 168 rfl) rfl
theorem q2186 : (Jvm.Cond.selects "CliffHoneyModel" ({ cls := "CliffHoneyModel", name := "whose", desc := "(III)I" } : Jvm.MethodName) ({ cls := "CliffHoneyModel", name := "whose", desc := "(III)I" } : Jvm.MethodName)) ∈ lw_all := lw_g (lw_at lw_m9 169 rfl) rfl
theorem q2187 : (Jvm.Cond.code ({ cls := "CliffHoneyModel", name := "whose", desc := "(III)I" } : Jvm.MethodName) prog_23_method_89_code (4 : Nat) (Option.some Jvm.ClassFile.FieldType.int)) ∈ lw_all := lw_g (lw_at lw_m9 170 rfl) rfl
theorem q2189 : (Jvm.Cond.instanceMethod ({ cls := "CliffHoneyModel", name := "count", desc := "(III)I" } : Jvm.MethodName)) ∈ lw_all := lw_g (lw_at lw_m9 172 rfl) rfl
theorem q2190 : (Jvm.Cond.selects "CliffHoneyModel" ({ cls := "CliffHoneyModel", name := "count", desc := "(III)I" } : Jvm.MethodName) ({ cls := "CliffHoneyModel", name := "count", desc := "(III)I" } : Jvm.MethodName)) ∈ lw_all := lw_g (lw_at lw_m9 173 rfl) rfl
theorem q2191 : (Jvm.Cond.code ({ cls := "CliffHoneyModel", name := "count", desc := "(III)I" } : Jvm.MethodName) prog_23_method_90_code (6 : Nat) (Option.some Jvm.ClassFile.FieldType.int)) ∈ lw_all := lw_g (lw_at lw_m9 174 rfl) rfl
theorem q2193 : (Jvm.Cond.instanceMethod ({ cls := "CliffHoneyModel", name := "guess", desc := "(II)I" } : Jvm.MethodName)) ∈ lw_all := lw_g (lw_at lw_m9 176 rfl) rfl
theorem q2194 : (Jvm.Cond.selects "CliffHoneyModel" ({ cls := "CliffHoneyModel", name := "guess", desc := "(II)I" } : Jvm.MethodName) ({ cls := "CliffHoneyModel", name := "guess", desc := "(II)I" } : Jvm.MethodName)) ∈ lw_all := lw_g (lw_at lw_m9 177 rfl) rfl
theorem q2195 : (Jvm.Cond.code ({ cls := "CliffHoneyModel", name := "guess", desc := "(II)I" } : Jvm.MethodName) prog_23_method_91_code (3 : Nat) (Option.some Jvm.ClassFile.FieldType.int)) ∈ lw_all := lw_g (lw_at lw_m9 178 rfl) rfl
theorem q2197 : (Jvm.Cond.instanceMethod ({ cls := "CliffHoneyModel", name := "foreseen", desc := "(III)I" } : Jvm.MethodName)) ∈ lw_all := lw_g (lw_at lw_m9 180 rfl) rfl
theorem q2198 : (Jvm.Cond.selects "CliffHoneyModel" ({ cls := "CliffHoneyModel", name := "foreseen", desc := "(III)I" } : Jvm.MethodName) ({ cls := "CliffHoneyModel", name := "foreseen", desc := "(III)I" } : Jvm.MethodName)) ∈ lw_all := lw_g (lw_at lw_m9 181 rfl) rfl
theorem q2199 : (Jvm.Cond.code ({ cls := "CliffHoneyModel", name := "foreseen", desc := "(III)I" } : Jvm.MethodName) prog_23_method_94_code (8 : Nat) (Option.some Jvm.ClassFile.FieldType.int)) ∈ lw_all := lw_g (lw_at lw_m9 182 rfl) rfl
theorem q2200 : (Jvm.Cond.methodLink "CliffHoneyModel" (546 : Nat) ({ cls := "CliffHoneyModel", name := "keeps", desc := "(Z)V" } : Jvm.MethodName)) ∈ lw_all := lw_g (lw_at lw_m9 183 rfl) rfl
theorem q2201 : (Jvm.Cond.privateMethod ({ cls := "CliffHoneyModel", name := "keeps", desc := "(Z)V" } : Jvm.MethodName)) ∈ lw_tbl := lw_at lw_m9 184 rfl
theorem q2202 : (Jvm.Cond.instanceMethod ({ cls := "CliffHoneyModel", name := "keeps", desc := "(Z)V" } : Jvm.MethodName)) ∈ lw_all := lw_g (lw_at lw_m9 185 rfl) rfl
theorem q2203 : (Jvm.Cond.code ({ cls := "CliffHoneyModel", name := "keeps", desc := "(Z)V" } : Jvm.MethodName) prog_23_method_92_code (3 : Nat) (Option.none : Option Jvm.ClassFile.FieldType)) ∈ lw_all := lw_g (lw_at lw_m9 186 rfl) rfl
theorem q2204 : (Jvm.Cond.methodLink "CliffHoneyModel" (550 : Nat) ({ cls := "CliffHoneyModel", name := "foresees", desc := "(I)I" } : Jvm.MethodName)) ∈ lw_all := lw_g (lw_at lw_m9 187 rfl) rfl
theorem q2205 : (Jvm.Cond.privateMethod ({ cls := "CliffHoneyModel", name := "foresees", desc := "(I)I" } : Jvm.MethodName)) ∈ lw_tbl := lw_at lw_m9 188 rfl
theorem q2206 : (Jvm.Cond.instanceMethod ({ cls := "CliffHoneyModel", name := "foresees", desc := "(I)I" } : Jvm.MethodName)) ∈ lw_all := lw_g (lw_at lw_m9 189 rfl) rfl
theorem q2207 : (Jvm.Cond.code ({ cls := "CliffHoneyModel", name := "foresees", desc := "(I)I" } : Jvm.MethodName) prog_23_method_93_code (5 : Nat) (Option.some Jvm.ClassFile.FieldType.int)) ∈ lw_all := lw_g (lw_at lw_m9 190 rfl) rfl
theorem q2208 : (Jvm.Cond.methodLink "CliffHoneyModel" (553 : Nat) ({ cls := "CliffHoneyModel", name := "look", desc := "(I)I" } : Jvm.MethodName)) ∈ lw_all := lw_g (lw_at lw_m9 191 rfl) rfl
theorem in_X4 : ∀ w ∈ wsX40, w ∈ lw_all := lw_in wsX40 [1614, 1616, 1618, 1620, 1622, 1624, 1626, 1628, 1630, 1632, 1634, 1636, 1638, 1640, 1642, 1644, 1646, 1648, 1650, 1652, 1654, 1656, 1658, 1660, 1662, 1664, 1666, 1668, 1670, 1672, 1674, 1676, 1678, 1680, 1682, 1684, 1686, 1688, 1690, 1692, 1694, 1696, 1698, 1700, 1702, 1704, 1706, 1708, 1710, 1712, 1714, 1716, 1718, 1720, 1722, 1724, 1726, 1728, 1730, 1732, 1734, 1736, 1738, 1740, 1742, 1744, 1746, 1748, 1750, 1752, 1754, 1756, 1758, 1760, 1762, 1764, 1766, 1768, 1770, 1772, 1774, 1776, 1778, 1780, 1782, 1784, 1786, 1788, 1790, 1792, 1794, 1796, 1798, 1800, 1802, 1804, 1806, 1808, 1810, 1812, 1814, 1816, 1818] (by decide +kernel) (by decide +kernel)
