/-! CliffHoney -/
set_option maxRecDepth 100000
def RX0 : String := "CliffHoney"
def TX0 : u_T := fun k => match k with
  | 0 => ("CliffHoney", "ledges", "[LCliffHoney$Ledge;", true)
  | 1 => ("CliffHoney", "trial", "[LCliffHoney$Ledge;", true)
  | 2 => ("CliffHoney", "gives", "[I", true)
  | 3 => ("CliffHoney", "mads", "[I", true)
  | 4 => ("CliffHoney", "many", "I", false)
  | 5 => ("CliffHoney", "date", "I", false)
  | 6 => ("CliffHoney", "wind", "I", false)
  | 7 => ("CliffHoney", "sun", "I", false)
  | 8 => ("CliffHoney", "stings", "I", false)
  | 9 => ("CliffHoney", "tape", "[B", true)
  | 10 => ("CliffHoney", "taped", "I", false)
  | 11 => ("CliffHoney", "faultKind", "I", false)
  | 12 => ("CliffHoney", "faultPlace", "I", false)
  | 13 => ("CliffHoney", "refusal", "LCliffHoney$Fault;", true)
  | 14 => ("CliffHoney", "words", "[Ljava/lang/String;", true)
  | 15 => ("CliffHoney", "reader", "LCliffHoney$Reader;", true)
  | 16 => ("CliffHoney", "lines", "[[LCliffHoney$Line;", true)
  | 17 => ("CliffHoney", "lineMany", "[I", true)
  | 18 => ("CliffHoney", "has", "[I", true)
  | 19 => ("CliffHoney", "customs", "[LCliffHoney$Custom;", true)
  | 20 => ("CliffHoney", "longs", "[I", true)
  | 21 => ("CliffHoney", "madeIn", "[I", true)
  | 22 => ("CliffHoney", "ladderMany", "I", false)
  | 23 => ("CliffHoney", "cuts", "[I", true)
  | 24 => ("CliffHoney", "trying", "[I", true)
  | 25 => ("CliffHoney", "best", "[I", true)
  | 26 => ("CliffHoney", "bestMany", "I", false)
  | 27 => ("CliffHoney", "bestUnits", "I", false)
  | 28 => ("CliffHoney", "bestMinutes", "I", false)
  | 29 => ("CliffHoney", "bestStings", "I", false)
  | 30 => ("CliffHoney", "people", "[LCliffHoney$Person;", true)
  | 31 => ("CliffHoney", "peopleMany", "I", false)
  | 32 => ("CliffHoney", "right", "I", false)
  | 33 => ("CliffHoney", "villageMoney", "[I", true)
  | 34 => ("CliffHoney", "temple", "I", false)
  | 35 => ("CliffHoney", "everCut", "I", false)
  | 36 => ("CliffHoney", "lots", "[LCliffHoney$Lot;", true)
  | 37 => ("CliffHoney", "lotMany", "I", false)
  | 38 => ("CliffHoney", "buyers", "[LCliffHoney$Buyer;", true)
  | 39 => ("CliffHoney", "offered", "[I", true)
  | 40 => ("CliffHoney", "to", "[I", true)
  | 41 => ("CliffHoney", "bestTo", "[I", true)
  | 42 => ("CliffHoney", "buyerMany", "I", false)
  | 43 => ("CliffHoney", "offeredMany", "I", false)
  | 44 => ("CliffHoney", "bestMoney", "I", false)
  | 45 => ("CliffHoney", "bestSold", "I", false)
  | 46 => ("CliffHoney", "claimLedge", "[I", true)
  | 47 => ("CliffHoney", "claimVillage", "[I", true)
  | 48 => ("CliffHoney", "claimSeason", "[I", true)
  | 49 => ("CliffHoney", "claimDate", "[I", true)
  | _ => ("CliffHoney", "claimMany", "I", false)
def tyX0 : Nat → FieldType := fun k => match k with
  | 0 => .array (.object "CliffHoney$Ledge")
  | 1 => .array (.object "CliffHoney$Ledge")
  | 2 => .array .int
  | 3 => .array .int
  | 4 => .int
  | 5 => .int
  | 6 => .int
  | 7 => .int
  | 8 => .int
  | 9 => .array .byte
  | 10 => .int
  | 11 => .int
  | 12 => .int
  | 13 => .object "CliffHoney$Fault"
  | 14 => .array (.object "java/lang/String")
  | 15 => .object "CliffHoney$Reader"
  | 16 => .array (.array (.object "CliffHoney$Line"))
  | 17 => .array .int
  | 18 => .array .int
  | 19 => .array (.object "CliffHoney$Custom")
  | 20 => .array .int
  | 21 => .array .int
  | 22 => .int
  | 23 => .array .int
  | 24 => .array .int
  | 25 => .array .int
  | 26 => .int
  | 27 => .int
  | 28 => .int
  | 29 => .int
  | 30 => .array (.object "CliffHoney$Person")
  | 31 => .int
  | 32 => .int
  | 33 => .array .int
  | 34 => .int
  | 35 => .int
  | 36 => .array (.object "CliffHoney$Lot")
  | 37 => .int
  | 38 => .array (.object "CliffHoney$Buyer")
  | 39 => .array .int
  | 40 => .array .int
  | 41 => .array .int
  | 42 => .int
  | 43 => .int
  | 44 => .int
  | 45 => .int
  | 46 => .array .int
  | 47 => .array .int
  | 48 => .array .int
  | 49 => .array .int
  | _ => .int
abbrev wsX00 : List Cond := u_ws RX0 TX0 51
set_option maxRecDepth 100000 in
theorem nmX0 : ∀ a, a < 51 → ∀ b, b < 51 → a ≠ b → (TX0 a).2.1 ≠ (TX0 b).2.1 := by decide +kernel
set_option maxRecDepth 100000 in
theorem tyX0_ok : ∀ k, k < 51 → parseFieldDescriptor (TX0 k).2.2.1 = some (tyX0 k) := by decide +kernel
abbrev cX0_init : ByteArray := prog_1_method_1_code
def yX0_init : MethodName := ⟨RX0, "<init>", "()V"⟩
def dkwX0_init_18 : List UInt8 := [181, 0, 178, 177]
abbrev dktX0_init_18 : List UInt8 := dkwX0_init_18 ++ []
def dkwX0_init_17 : List UInt8 := [181, 0, 169, 42, 16, 100, 188, 10, 181, 0, 172, 42, 16, 100, 188, 10, 181, 0, 175, 42, 16, 100, 188, 10]
abbrev dktX0_init_17 : List UInt8 := dkwX0_init_17 ++ dktX0_init_18
def dkwX0_init_16 : List UInt8 := [181, 0, 160, 42, 16, 8, 188, 10, 181, 0, 163, 42, 16, 8, 188, 10, 181, 0, 166, 42, 16, 100, 188, 10]
abbrev dktX0_init_16 : List UInt8 := dkwX0_init_16 ++ dktX0_init_17
def dkwX0_init_15 : List UInt8 := [42, 16, 40, 189, 0, 148, 181, 0, 150, 42, 7, 189, 0, 154, 181, 0, 156, 42, 16, 8, 188, 10]
abbrev dktX0_init_15 : List UInt8 := dkwX0_init_15 ++ dktX0_init_16
def dkwX0_init_14 : List UInt8 := [181, 0, 133, 42, 16, 16, 189, 0, 136, 181, 0, 138, 42, 2, 181, 0, 142, 42, 5, 188, 10, 181, 0, 145]
abbrev dktX0_init_14 : List UInt8 := dkwX0_init_14 ++ dktX0_init_15
def dkwX0_init_13 : List UInt8 := [181, 0, 124, 42, 16, 12, 188, 10, 181, 0, 127, 42, 16, 7, 188, 10, 181, 0, 130, 42, 16, 7, 188, 10]
abbrev dktX0_init_13 : List UInt8 := dkwX0_init_13 ++ dktX0_init_14
def dkwX0_init_12 : List UInt8 := [187, 0, 114, 89, 183, 0, 116, 83, 181, 0, 117, 42, 7, 188, 10, 181, 0, 121, 42, 7, 188, 10]
abbrev dktX0_init_12 : List UInt8 := dkwX0_init_12 ++ dktX0_init_13
def dkwX0_init_11 : List UInt8 := [188, 10, 181, 0, 111, 42, 5, 189, 0, 114, 89, 3, 187, 0, 114, 89, 183, 0, 116, 83, 89, 4]
abbrev dktX0_init_11 : List UInt8 := dkwX0_init_11 ++ dktX0_init_12
def dkwX0_init_10 : List UInt8 := [181, 0, 99, 42, 5, 16, 20, 197, 0, 103, 2, 181, 0, 105, 42, 5, 188, 10, 181, 0, 108, 42, 16, 8]
abbrev dktX0_init_10 : List UInt8 := dkwX0_init_10 ++ dktX0_init_11
def dkwX0_init_9 : List UInt8 := [89, 16, 19, 18, 86, 83, 89, 16, 20, 18, 88, 83, 181, 0, 90, 42, 187, 0, 94, 89, 42, 183, 0, 96]
abbrev dktX0_init_9 : List UInt8 := dkwX0_init_9 ++ dktX0_init_10
def dkwX0_init_8 : List UInt8 := [89, 16, 15, 18, 78, 83, 89, 16, 16, 18, 80, 83, 89, 16, 17, 18, 82, 83, 89, 16, 18, 18, 84, 83]
abbrev dktX0_init_8 : List UInt8 := dkwX0_init_8 ++ dktX0_init_9
def dkwX0_init_7 : List UInt8 := [89, 16, 11, 18, 70, 83, 89, 16, 12, 18, 72, 83, 89, 16, 13, 18, 74, 83, 89, 16, 14, 18, 76, 83]
abbrev dktX0_init_7 : List UInt8 := dkwX0_init_7 ++ dktX0_init_8
def dkwX0_init_6 : List UInt8 := [89, 16, 7, 18, 62, 83, 89, 16, 8, 18, 64, 83, 89, 16, 9, 18, 66, 83, 89, 16, 10, 18, 68, 83]
abbrev dktX0_init_6 : List UInt8 := dkwX0_init_6 ++ dktX0_init_7
def dkwX0_init_5 : List UInt8 := [18, 52, 83, 89, 6, 18, 54, 83, 89, 7, 18, 56, 83, 89, 8, 18, 58, 83, 89, 16, 6, 18, 60, 83]
abbrev dktX0_init_5 : List UInt8 := dkwX0_init_5 ++ dktX0_init_6
def dkwX0_init_4 : List UInt8 := [183, 0, 41, 181, 0, 42, 42, 16, 21, 189, 0, 46, 89, 3, 18, 48, 83, 89, 4, 18, 50, 83, 89, 5]
abbrev dktX0_init_4 : List UInt8 := dkwX0_init_4 ++ dktX0_init_5
def dkwX0_init_3 : List UInt8 := [16, 20, 181, 0, 29, 42, 17, 2, 88, 188, 8, 181, 0, 32, 42, 2, 181, 0, 36, 42, 187, 0, 39, 89]
abbrev dktX0_init_3 : List UInt8 := dkwX0_init_3 ++ dktX0_init_4
def dkwX0_init_2 : List UInt8 := [89, 8, 8, 79, 181, 0, 18, 42, 16, 6, 188, 10, 181, 0, 22, 42, 17, 1, 44, 181, 0, 25, 42]
abbrev dktX0_init_2 : List UInt8 := dkwX0_init_2 ++ dktX0_init_3
def dkwX0_init_1 : List UInt8 := [16, 6, 188, 10, 89, 3, 8, 79, 89, 4, 8, 79, 89, 5, 8, 79, 89, 6, 8, 79, 89, 7, 8, 79]
abbrev dktX0_init_1 : List UInt8 := dkwX0_init_1 ++ dktX0_init_2
def dkwX0_init_0 : List UInt8 := [42, 183, 0, 3, 42, 16, 12, 189, 0, 9, 181, 0, 11, 42, 16, 12, 189, 0, 9, 181, 0, 15, 42]
abbrev dktX0_init_0 : List UInt8 := dkwX0_init_0 ++ dktX0_init_1
theorem dksX0_init_0 : cX0_init.data.toList.drop 0 = dktX0_init_0 := by decide +kernel
theorem dksX0_init_1 : cX0_init.data.toList.drop 23 = dktX0_init_1 := dk_seg dksX0_init_0 23 rfl rfl
theorem dksX0_init_2 : cX0_init.data.toList.drop 47 = dktX0_init_2 := dk_seg dksX0_init_1 24 rfl rfl
theorem dksX0_init_3 : cX0_init.data.toList.drop 70 = dktX0_init_3 := dk_seg dksX0_init_2 23 rfl rfl
theorem dksX0_init_4 : cX0_init.data.toList.drop 94 = dktX0_init_4 := dk_seg dksX0_init_3 24 rfl rfl
theorem dksX0_init_5 : cX0_init.data.toList.drop 118 = dktX0_init_5 := dk_seg dksX0_init_4 24 rfl rfl
theorem dksX0_init_6 : cX0_init.data.toList.drop 142 = dktX0_init_6 := dk_seg dksX0_init_5 24 rfl rfl
theorem dksX0_init_7 : cX0_init.data.toList.drop 166 = dktX0_init_7 := dk_seg dksX0_init_6 24 rfl rfl
theorem dksX0_init_8 : cX0_init.data.toList.drop 190 = dktX0_init_8 := dk_seg dksX0_init_7 24 rfl rfl
theorem dksX0_init_9 : cX0_init.data.toList.drop 214 = dktX0_init_9 := dk_seg dksX0_init_8 24 rfl rfl
theorem dksX0_init_10 : cX0_init.data.toList.drop 238 = dktX0_init_10 := dk_seg dksX0_init_9 24 rfl rfl
theorem dksX0_init_11 : cX0_init.data.toList.drop 262 = dktX0_init_11 := dk_seg dksX0_init_10 24 rfl rfl
theorem dksX0_init_12 : cX0_init.data.toList.drop 284 = dktX0_init_12 := dk_seg dksX0_init_11 22 rfl rfl
theorem dksX0_init_13 : cX0_init.data.toList.drop 306 = dktX0_init_13 := dk_seg dksX0_init_12 22 rfl rfl
theorem dksX0_init_14 : cX0_init.data.toList.drop 330 = dktX0_init_14 := dk_seg dksX0_init_13 24 rfl rfl
theorem dksX0_init_15 : cX0_init.data.toList.drop 354 = dktX0_init_15 := dk_seg dksX0_init_14 24 rfl rfl
theorem dksX0_init_16 : cX0_init.data.toList.drop 376 = dktX0_init_16 := dk_seg dksX0_init_15 22 rfl rfl
theorem dksX0_init_17 : cX0_init.data.toList.drop 400 = dktX0_init_17 := dk_seg dksX0_init_16 24 rfl rfl
theorem dksX0_init_18 : cX0_init.data.toList.drop 424 = dktX0_init_18 := dk_seg dksX0_init_17 24 rfl rfl
theorem dX0_init_0 : decode cX0_init 0 = .ok (.aload_n 0, 1) := dk_42 (dk_at dksX0_init_0 0 rfl rfl)
theorem dX0_init_1 : decode cX0_init 1 = .ok (.invokespecial 3, 3) := dk_183 0 3 (dk_at dksX0_init_0 1 rfl rfl)
theorem dX0_init_4 : decode cX0_init 4 = .ok (.aload_n 0, 1) := dk_42 (dk_at dksX0_init_0 4 rfl rfl)
theorem dX0_init_5 : decode cX0_init 5 = .ok (.bipush 12, 2) := dk_16 12 (dk_at dksX0_init_0 5 rfl rfl)
theorem dX0_init_7 : decode cX0_init 7 = .ok (.anewarray 9, 3) := dk_189 0 9 (dk_at dksX0_init_0 7 rfl rfl)
theorem dX0_init_10 : decode cX0_init 10 = .ok (.putfield 11, 3) := dk_181 0 11 (dk_at dksX0_init_0 10 rfl rfl)
theorem dX0_init_13 : decode cX0_init 13 = .ok (.aload_n 0, 1) := dk_42 (dk_at dksX0_init_0 13 rfl rfl)
theorem dX0_init_14 : decode cX0_init 14 = .ok (.bipush 12, 2) := dk_16 12 (dk_at dksX0_init_0 14 rfl rfl)
theorem dX0_init_16 : decode cX0_init 16 = .ok (.anewarray 9, 3) := dk_189 0 9 (dk_at dksX0_init_0 16 rfl rfl)
theorem dX0_init_19 : decode cX0_init 19 = .ok (.putfield 15, 3) := dk_181 0 15 (dk_at dksX0_init_0 19 rfl rfl)
theorem dX0_init_22 : decode cX0_init 22 = .ok (.aload_n 0, 1) := dk_42 (dk_at dksX0_init_0 22 rfl rfl)
theorem dX0_init_23 : decode cX0_init 23 = .ok (.bipush 6, 2) := dk_16 6 (dk_at dksX0_init_1 0 rfl rfl)
theorem dX0_init_25 : decode cX0_init 25 = .ok (.newarray .int, 2) := dk_188_10 (dk_at dksX0_init_1 2 rfl rfl)
theorem dX0_init_27 : decode cX0_init 27 = .ok (.dup, 1) := dk_89 (dk_at dksX0_init_1 4 rfl rfl)
theorem dX0_init_28 : decode cX0_init 28 = .ok (.iconst 0, 1) := dk_3 (dk_at dksX0_init_1 5 rfl rfl)
theorem dX0_init_29 : decode cX0_init 29 = .ok (.iconst 5, 1) := dk_8 (dk_at dksX0_init_1 6 rfl rfl)
theorem dX0_init_30 : decode cX0_init 30 = .ok (.iastore, 1) := dk_79 (dk_at dksX0_init_1 7 rfl rfl)
theorem dX0_init_31 : decode cX0_init 31 = .ok (.dup, 1) := dk_89 (dk_at dksX0_init_1 8 rfl rfl)
theorem dX0_init_32 : decode cX0_init 32 = .ok (.iconst 1, 1) := dk_4 (dk_at dksX0_init_1 9 rfl rfl)
theorem dX0_init_33 : decode cX0_init 33 = .ok (.iconst 5, 1) := dk_8 (dk_at dksX0_init_1 10 rfl rfl)
theorem dX0_init_34 : decode cX0_init 34 = .ok (.iastore, 1) := dk_79 (dk_at dksX0_init_1 11 rfl rfl)
theorem dX0_init_35 : decode cX0_init 35 = .ok (.dup, 1) := dk_89 (dk_at dksX0_init_1 12 rfl rfl)
theorem dX0_init_36 : decode cX0_init 36 = .ok (.iconst 2, 1) := dk_5 (dk_at dksX0_init_1 13 rfl rfl)
theorem dX0_init_37 : decode cX0_init 37 = .ok (.iconst 5, 1) := dk_8 (dk_at dksX0_init_1 14 rfl rfl)
theorem dX0_init_38 : decode cX0_init 38 = .ok (.iastore, 1) := dk_79 (dk_at dksX0_init_1 15 rfl rfl)
theorem dX0_init_39 : decode cX0_init 39 = .ok (.dup, 1) := dk_89 (dk_at dksX0_init_1 16 rfl rfl)
theorem dX0_init_40 : decode cX0_init 40 = .ok (.iconst 3, 1) := dk_6 (dk_at dksX0_init_1 17 rfl rfl)
theorem dX0_init_41 : decode cX0_init 41 = .ok (.iconst 5, 1) := dk_8 (dk_at dksX0_init_1 18 rfl rfl)
theorem dX0_init_42 : decode cX0_init 42 = .ok (.iastore, 1) := dk_79 (dk_at dksX0_init_1 19 rfl rfl)
theorem dX0_init_43 : decode cX0_init 43 = .ok (.dup, 1) := dk_89 (dk_at dksX0_init_1 20 rfl rfl)
theorem dX0_init_44 : decode cX0_init 44 = .ok (.iconst 4, 1) := dk_7 (dk_at dksX0_init_1 21 rfl rfl)
theorem dX0_init_45 : decode cX0_init 45 = .ok (.iconst 5, 1) := dk_8 (dk_at dksX0_init_1 22 rfl rfl)
theorem dX0_init_46 : decode cX0_init 46 = .ok (.iastore, 1) := dk_79 (dk_at dksX0_init_1 23 rfl rfl)
theorem dX0_init_47 : decode cX0_init 47 = .ok (.dup, 1) := dk_89 (dk_at dksX0_init_2 0 rfl rfl)
theorem dX0_init_48 : decode cX0_init 48 = .ok (.iconst 5, 1) := dk_8 (dk_at dksX0_init_2 1 rfl rfl)
theorem dX0_init_49 : decode cX0_init 49 = .ok (.iconst 5, 1) := dk_8 (dk_at dksX0_init_2 2 rfl rfl)
theorem dX0_init_50 : decode cX0_init 50 = .ok (.iastore, 1) := dk_79 (dk_at dksX0_init_2 3 rfl rfl)
theorem dX0_init_51 : decode cX0_init 51 = .ok (.putfield 18, 3) := dk_181 0 18 (dk_at dksX0_init_2 4 rfl rfl)
theorem dX0_init_54 : decode cX0_init 54 = .ok (.aload_n 0, 1) := dk_42 (dk_at dksX0_init_2 7 rfl rfl)
theorem dX0_init_55 : decode cX0_init 55 = .ok (.bipush 6, 2) := dk_16 6 (dk_at dksX0_init_2 8 rfl rfl)
theorem dX0_init_57 : decode cX0_init 57 = .ok (.newarray .int, 2) := dk_188_10 (dk_at dksX0_init_2 10 rfl rfl)
theorem dX0_init_59 : decode cX0_init 59 = .ok (.putfield 22, 3) := dk_181 0 22 (dk_at dksX0_init_2 12 rfl rfl)
theorem dX0_init_62 : decode cX0_init 62 = .ok (.aload_n 0, 1) := dk_42 (dk_at dksX0_init_2 15 rfl rfl)
theorem dX0_init_63 : decode cX0_init 63 = .ok (.sipush 300, 3) := dk_17 1 44 (dk_at dksX0_init_2 16 rfl rfl)
theorem dX0_init_66 : decode cX0_init 66 = .ok (.putfield 25, 3) := dk_181 0 25 (dk_at dksX0_init_2 19 rfl rfl)
theorem dX0_init_69 : decode cX0_init 69 = .ok (.aload_n 0, 1) := dk_42 (dk_at dksX0_init_2 22 rfl rfl)
theorem dX0_init_70 : decode cX0_init 70 = .ok (.bipush 20, 2) := dk_16 20 (dk_at dksX0_init_3 0 rfl rfl)
theorem dX0_init_72 : decode cX0_init 72 = .ok (.putfield 29, 3) := dk_181 0 29 (dk_at dksX0_init_3 2 rfl rfl)
theorem dX0_init_75 : decode cX0_init 75 = .ok (.aload_n 0, 1) := dk_42 (dk_at dksX0_init_3 5 rfl rfl)
theorem dX0_init_76 : decode cX0_init 76 = .ok (.sipush 600, 3) := dk_17 2 88 (dk_at dksX0_init_3 6 rfl rfl)
theorem dX0_init_79 : decode cX0_init 79 = .ok (.newarray .byte, 2) := dk_188_8 (dk_at dksX0_init_3 9 rfl rfl)
theorem dX0_init_81 : decode cX0_init 81 = .ok (.putfield 32, 3) := dk_181 0 32 (dk_at dksX0_init_3 11 rfl rfl)
theorem dX0_init_84 : decode cX0_init 84 = .ok (.aload_n 0, 1) := dk_42 (dk_at dksX0_init_3 14 rfl rfl)
theorem dX0_init_85 : decode cX0_init 85 = .ok (.iconst (-1), 1) := dk_2 (dk_at dksX0_init_3 15 rfl rfl)
theorem dX0_init_86 : decode cX0_init 86 = .ok (.putfield 36, 3) := dk_181 0 36 (dk_at dksX0_init_3 16 rfl rfl)
theorem dX0_init_89 : decode cX0_init 89 = .ok (.aload_n 0, 1) := dk_42 (dk_at dksX0_init_3 19 rfl rfl)
theorem dX0_init_90 : decode cX0_init 90 = .ok (.new 39, 3) := dk_187 0 39 (dk_at dksX0_init_3 20 rfl rfl)
theorem dX0_init_93 : decode cX0_init 93 = .ok (.dup, 1) := dk_89 (dk_at dksX0_init_3 23 rfl rfl)
theorem dX0_init_94 : decode cX0_init 94 = .ok (.invokespecial 41, 3) := dk_183 0 41 (dk_at dksX0_init_4 0 rfl rfl)
theorem dX0_init_97 : decode cX0_init 97 = .ok (.putfield 42, 3) := dk_181 0 42 (dk_at dksX0_init_4 3 rfl rfl)
theorem dX0_init_100 : decode cX0_init 100 = .ok (.aload_n 0, 1) := dk_42 (dk_at dksX0_init_4 6 rfl rfl)
theorem dX0_init_101 : decode cX0_init 101 = .ok (.bipush 21, 2) := dk_16 21 (dk_at dksX0_init_4 7 rfl rfl)
theorem dX0_init_103 : decode cX0_init 103 = .ok (.anewarray 46, 3) := dk_189 0 46 (dk_at dksX0_init_4 9 rfl rfl)
theorem dX0_init_106 : decode cX0_init 106 = .ok (.dup, 1) := dk_89 (dk_at dksX0_init_4 12 rfl rfl)
theorem dX0_init_107 : decode cX0_init 107 = .ok (.iconst 0, 1) := dk_3 (dk_at dksX0_init_4 13 rfl rfl)
theorem dX0_init_108 : decode cX0_init 108 = .ok (.ldc 48, 2) := dk_18 48 (dk_at dksX0_init_4 14 rfl rfl)
theorem dX0_init_110 : decode cX0_init 110 = .ok (.aastore, 1) := dk_83 (dk_at dksX0_init_4 16 rfl rfl)
theorem dX0_init_111 : decode cX0_init 111 = .ok (.dup, 1) := dk_89 (dk_at dksX0_init_4 17 rfl rfl)
theorem dX0_init_112 : decode cX0_init 112 = .ok (.iconst 1, 1) := dk_4 (dk_at dksX0_init_4 18 rfl rfl)
theorem dX0_init_113 : decode cX0_init 113 = .ok (.ldc 50, 2) := dk_18 50 (dk_at dksX0_init_4 19 rfl rfl)
theorem dX0_init_115 : decode cX0_init 115 = .ok (.aastore, 1) := dk_83 (dk_at dksX0_init_4 21 rfl rfl)
theorem dX0_init_116 : decode cX0_init 116 = .ok (.dup, 1) := dk_89 (dk_at dksX0_init_4 22 rfl rfl)
theorem dX0_init_117 : decode cX0_init 117 = .ok (.iconst 2, 1) := dk_5 (dk_at dksX0_init_4 23 rfl rfl)
theorem dX0_init_118 : decode cX0_init 118 = .ok (.ldc 52, 2) := dk_18 52 (dk_at dksX0_init_5 0 rfl rfl)
theorem dX0_init_120 : decode cX0_init 120 = .ok (.aastore, 1) := dk_83 (dk_at dksX0_init_5 2 rfl rfl)
theorem dX0_init_121 : decode cX0_init 121 = .ok (.dup, 1) := dk_89 (dk_at dksX0_init_5 3 rfl rfl)
theorem dX0_init_122 : decode cX0_init 122 = .ok (.iconst 3, 1) := dk_6 (dk_at dksX0_init_5 4 rfl rfl)
theorem dX0_init_123 : decode cX0_init 123 = .ok (.ldc 54, 2) := dk_18 54 (dk_at dksX0_init_5 5 rfl rfl)
theorem dX0_init_125 : decode cX0_init 125 = .ok (.aastore, 1) := dk_83 (dk_at dksX0_init_5 7 rfl rfl)
theorem dX0_init_126 : decode cX0_init 126 = .ok (.dup, 1) := dk_89 (dk_at dksX0_init_5 8 rfl rfl)
theorem dX0_init_127 : decode cX0_init 127 = .ok (.iconst 4, 1) := dk_7 (dk_at dksX0_init_5 9 rfl rfl)
theorem dX0_init_128 : decode cX0_init 128 = .ok (.ldc 56, 2) := dk_18 56 (dk_at dksX0_init_5 10 rfl rfl)
theorem dX0_init_130 : decode cX0_init 130 = .ok (.aastore, 1) := dk_83 (dk_at dksX0_init_5 12 rfl rfl)
theorem dX0_init_131 : decode cX0_init 131 = .ok (.dup, 1) := dk_89 (dk_at dksX0_init_5 13 rfl rfl)
theorem dX0_init_132 : decode cX0_init 132 = .ok (.iconst 5, 1) := dk_8 (dk_at dksX0_init_5 14 rfl rfl)
theorem dX0_init_133 : decode cX0_init 133 = .ok (.ldc 58, 2) := dk_18 58 (dk_at dksX0_init_5 15 rfl rfl)
theorem dX0_init_135 : decode cX0_init 135 = .ok (.aastore, 1) := dk_83 (dk_at dksX0_init_5 17 rfl rfl)
theorem dX0_init_136 : decode cX0_init 136 = .ok (.dup, 1) := dk_89 (dk_at dksX0_init_5 18 rfl rfl)
theorem dX0_init_137 : decode cX0_init 137 = .ok (.bipush 6, 2) := dk_16 6 (dk_at dksX0_init_5 19 rfl rfl)
theorem dX0_init_139 : decode cX0_init 139 = .ok (.ldc 60, 2) := dk_18 60 (dk_at dksX0_init_5 21 rfl rfl)
theorem dX0_init_141 : decode cX0_init 141 = .ok (.aastore, 1) := dk_83 (dk_at dksX0_init_5 23 rfl rfl)
theorem dX0_init_142 : decode cX0_init 142 = .ok (.dup, 1) := dk_89 (dk_at dksX0_init_6 0 rfl rfl)
theorem dX0_init_143 : decode cX0_init 143 = .ok (.bipush 7, 2) := dk_16 7 (dk_at dksX0_init_6 1 rfl rfl)
theorem dX0_init_145 : decode cX0_init 145 = .ok (.ldc 62, 2) := dk_18 62 (dk_at dksX0_init_6 3 rfl rfl)
theorem dX0_init_147 : decode cX0_init 147 = .ok (.aastore, 1) := dk_83 (dk_at dksX0_init_6 5 rfl rfl)
theorem dX0_init_148 : decode cX0_init 148 = .ok (.dup, 1) := dk_89 (dk_at dksX0_init_6 6 rfl rfl)
theorem dX0_init_149 : decode cX0_init 149 = .ok (.bipush 8, 2) := dk_16 8 (dk_at dksX0_init_6 7 rfl rfl)
theorem dX0_init_151 : decode cX0_init 151 = .ok (.ldc 64, 2) := dk_18 64 (dk_at dksX0_init_6 9 rfl rfl)
theorem dX0_init_153 : decode cX0_init 153 = .ok (.aastore, 1) := dk_83 (dk_at dksX0_init_6 11 rfl rfl)
theorem dX0_init_154 : decode cX0_init 154 = .ok (.dup, 1) := dk_89 (dk_at dksX0_init_6 12 rfl rfl)
theorem dX0_init_155 : decode cX0_init 155 = .ok (.bipush 9, 2) := dk_16 9 (dk_at dksX0_init_6 13 rfl rfl)
theorem dX0_init_157 : decode cX0_init 157 = .ok (.ldc 66, 2) := dk_18 66 (dk_at dksX0_init_6 15 rfl rfl)
theorem dX0_init_159 : decode cX0_init 159 = .ok (.aastore, 1) := dk_83 (dk_at dksX0_init_6 17 rfl rfl)
theorem dX0_init_160 : decode cX0_init 160 = .ok (.dup, 1) := dk_89 (dk_at dksX0_init_6 18 rfl rfl)
theorem dX0_init_161 : decode cX0_init 161 = .ok (.bipush 10, 2) := dk_16 10 (dk_at dksX0_init_6 19 rfl rfl)
theorem dX0_init_163 : decode cX0_init 163 = .ok (.ldc 68, 2) := dk_18 68 (dk_at dksX0_init_6 21 rfl rfl)
theorem dX0_init_165 : decode cX0_init 165 = .ok (.aastore, 1) := dk_83 (dk_at dksX0_init_6 23 rfl rfl)
theorem dX0_init_166 : decode cX0_init 166 = .ok (.dup, 1) := dk_89 (dk_at dksX0_init_7 0 rfl rfl)
theorem dX0_init_167 : decode cX0_init 167 = .ok (.bipush 11, 2) := dk_16 11 (dk_at dksX0_init_7 1 rfl rfl)
theorem dX0_init_169 : decode cX0_init 169 = .ok (.ldc 70, 2) := dk_18 70 (dk_at dksX0_init_7 3 rfl rfl)
theorem dX0_init_171 : decode cX0_init 171 = .ok (.aastore, 1) := dk_83 (dk_at dksX0_init_7 5 rfl rfl)
theorem dX0_init_172 : decode cX0_init 172 = .ok (.dup, 1) := dk_89 (dk_at dksX0_init_7 6 rfl rfl)
theorem dX0_init_173 : decode cX0_init 173 = .ok (.bipush 12, 2) := dk_16 12 (dk_at dksX0_init_7 7 rfl rfl)
theorem dX0_init_175 : decode cX0_init 175 = .ok (.ldc 72, 2) := dk_18 72 (dk_at dksX0_init_7 9 rfl rfl)
theorem dX0_init_177 : decode cX0_init 177 = .ok (.aastore, 1) := dk_83 (dk_at dksX0_init_7 11 rfl rfl)
theorem dX0_init_178 : decode cX0_init 178 = .ok (.dup, 1) := dk_89 (dk_at dksX0_init_7 12 rfl rfl)
theorem dX0_init_179 : decode cX0_init 179 = .ok (.bipush 13, 2) := dk_16 13 (dk_at dksX0_init_7 13 rfl rfl)
theorem dX0_init_181 : decode cX0_init 181 = .ok (.ldc 74, 2) := dk_18 74 (dk_at dksX0_init_7 15 rfl rfl)
theorem dX0_init_183 : decode cX0_init 183 = .ok (.aastore, 1) := dk_83 (dk_at dksX0_init_7 17 rfl rfl)
theorem dX0_init_184 : decode cX0_init 184 = .ok (.dup, 1) := dk_89 (dk_at dksX0_init_7 18 rfl rfl)
theorem dX0_init_185 : decode cX0_init 185 = .ok (.bipush 14, 2) := dk_16 14 (dk_at dksX0_init_7 19 rfl rfl)
theorem dX0_init_187 : decode cX0_init 187 = .ok (.ldc 76, 2) := dk_18 76 (dk_at dksX0_init_7 21 rfl rfl)
theorem dX0_init_189 : decode cX0_init 189 = .ok (.aastore, 1) := dk_83 (dk_at dksX0_init_7 23 rfl rfl)
theorem dX0_init_190 : decode cX0_init 190 = .ok (.dup, 1) := dk_89 (dk_at dksX0_init_8 0 rfl rfl)
theorem dX0_init_191 : decode cX0_init 191 = .ok (.bipush 15, 2) := dk_16 15 (dk_at dksX0_init_8 1 rfl rfl)
theorem dX0_init_193 : decode cX0_init 193 = .ok (.ldc 78, 2) := dk_18 78 (dk_at dksX0_init_8 3 rfl rfl)
theorem dX0_init_195 : decode cX0_init 195 = .ok (.aastore, 1) := dk_83 (dk_at dksX0_init_8 5 rfl rfl)
theorem dX0_init_196 : decode cX0_init 196 = .ok (.dup, 1) := dk_89 (dk_at dksX0_init_8 6 rfl rfl)
theorem dX0_init_197 : decode cX0_init 197 = .ok (.bipush 16, 2) := dk_16 16 (dk_at dksX0_init_8 7 rfl rfl)
theorem dX0_init_199 : decode cX0_init 199 = .ok (.ldc 80, 2) := dk_18 80 (dk_at dksX0_init_8 9 rfl rfl)
theorem dX0_init_201 : decode cX0_init 201 = .ok (.aastore, 1) := dk_83 (dk_at dksX0_init_8 11 rfl rfl)
theorem dX0_init_202 : decode cX0_init 202 = .ok (.dup, 1) := dk_89 (dk_at dksX0_init_8 12 rfl rfl)
theorem dX0_init_203 : decode cX0_init 203 = .ok (.bipush 17, 2) := dk_16 17 (dk_at dksX0_init_8 13 rfl rfl)
theorem dX0_init_205 : decode cX0_init 205 = .ok (.ldc 82, 2) := dk_18 82 (dk_at dksX0_init_8 15 rfl rfl)
theorem dX0_init_207 : decode cX0_init 207 = .ok (.aastore, 1) := dk_83 (dk_at dksX0_init_8 17 rfl rfl)
theorem dX0_init_208 : decode cX0_init 208 = .ok (.dup, 1) := dk_89 (dk_at dksX0_init_8 18 rfl rfl)
theorem dX0_init_209 : decode cX0_init 209 = .ok (.bipush 18, 2) := dk_16 18 (dk_at dksX0_init_8 19 rfl rfl)
theorem dX0_init_211 : decode cX0_init 211 = .ok (.ldc 84, 2) := dk_18 84 (dk_at dksX0_init_8 21 rfl rfl)
theorem dX0_init_213 : decode cX0_init 213 = .ok (.aastore, 1) := dk_83 (dk_at dksX0_init_8 23 rfl rfl)
theorem dX0_init_214 : decode cX0_init 214 = .ok (.dup, 1) := dk_89 (dk_at dksX0_init_9 0 rfl rfl)
theorem dX0_init_215 : decode cX0_init 215 = .ok (.bipush 19, 2) := dk_16 19 (dk_at dksX0_init_9 1 rfl rfl)
theorem dX0_init_217 : decode cX0_init 217 = .ok (.ldc 86, 2) := dk_18 86 (dk_at dksX0_init_9 3 rfl rfl)
theorem dX0_init_219 : decode cX0_init 219 = .ok (.aastore, 1) := dk_83 (dk_at dksX0_init_9 5 rfl rfl)
theorem dX0_init_220 : decode cX0_init 220 = .ok (.dup, 1) := dk_89 (dk_at dksX0_init_9 6 rfl rfl)
theorem dX0_init_221 : decode cX0_init 221 = .ok (.bipush 20, 2) := dk_16 20 (dk_at dksX0_init_9 7 rfl rfl)
theorem dX0_init_223 : decode cX0_init 223 = .ok (.ldc 88, 2) := dk_18 88 (dk_at dksX0_init_9 9 rfl rfl)
theorem dX0_init_225 : decode cX0_init 225 = .ok (.aastore, 1) := dk_83 (dk_at dksX0_init_9 11 rfl rfl)
theorem dX0_init_226 : decode cX0_init 226 = .ok (.putfield 90, 3) := dk_181 0 90 (dk_at dksX0_init_9 12 rfl rfl)
theorem dX0_init_229 : decode cX0_init 229 = .ok (.aload_n 0, 1) := dk_42 (dk_at dksX0_init_9 15 rfl rfl)
theorem dX0_init_230 : decode cX0_init 230 = .ok (.new 94, 3) := dk_187 0 94 (dk_at dksX0_init_9 16 rfl rfl)
theorem dX0_init_233 : decode cX0_init 233 = .ok (.dup, 1) := dk_89 (dk_at dksX0_init_9 19 rfl rfl)
theorem dX0_init_234 : decode cX0_init 234 = .ok (.aload_n 0, 1) := dk_42 (dk_at dksX0_init_9 20 rfl rfl)
theorem dX0_init_235 : decode cX0_init 235 = .ok (.invokespecial 96, 3) := dk_183 0 96 (dk_at dksX0_init_9 21 rfl rfl)
theorem dX0_init_238 : decode cX0_init 238 = .ok (.putfield 99, 3) := dk_181 0 99 (dk_at dksX0_init_10 0 rfl rfl)
theorem dX0_init_241 : decode cX0_init 241 = .ok (.aload_n 0, 1) := dk_42 (dk_at dksX0_init_10 3 rfl rfl)
theorem dX0_init_242 : decode cX0_init 242 = .ok (.iconst 2, 1) := dk_5 (dk_at dksX0_init_10 4 rfl rfl)
theorem dX0_init_243 : decode cX0_init 243 = .ok (.bipush 20, 2) := dk_16 20 (dk_at dksX0_init_10 5 rfl rfl)
theorem dX0_init_245 : decode cX0_init 245 = .ok (.multianewarray 103 2, 4) := by decide +kernel
theorem dX0_init_249 : decode cX0_init 249 = .ok (.putfield 105, 3) := dk_181 0 105 (dk_at dksX0_init_10 11 rfl rfl)
theorem dX0_init_252 : decode cX0_init 252 = .ok (.aload_n 0, 1) := dk_42 (dk_at dksX0_init_10 14 rfl rfl)
theorem dX0_init_253 : decode cX0_init 253 = .ok (.iconst 2, 1) := dk_5 (dk_at dksX0_init_10 15 rfl rfl)
theorem dX0_init_254 : decode cX0_init 254 = .ok (.newarray .int, 2) := dk_188_10 (dk_at dksX0_init_10 16 rfl rfl)
theorem dX0_init_256 : decode cX0_init 256 = .ok (.putfield 108, 3) := dk_181 0 108 (dk_at dksX0_init_10 18 rfl rfl)
theorem dX0_init_259 : decode cX0_init 259 = .ok (.aload_n 0, 1) := dk_42 (dk_at dksX0_init_10 21 rfl rfl)
theorem dX0_init_260 : decode cX0_init 260 = .ok (.bipush 8, 2) := dk_16 8 (dk_at dksX0_init_10 22 rfl rfl)
theorem dX0_init_262 : decode cX0_init 262 = .ok (.newarray .int, 2) := dk_188_10 (dk_at dksX0_init_11 0 rfl rfl)
theorem dX0_init_264 : decode cX0_init 264 = .ok (.putfield 111, 3) := dk_181 0 111 (dk_at dksX0_init_11 2 rfl rfl)
theorem dX0_init_267 : decode cX0_init 267 = .ok (.aload_n 0, 1) := dk_42 (dk_at dksX0_init_11 5 rfl rfl)
theorem dX0_init_268 : decode cX0_init 268 = .ok (.iconst 2, 1) := dk_5 (dk_at dksX0_init_11 6 rfl rfl)
theorem dX0_init_269 : decode cX0_init 269 = .ok (.anewarray 114, 3) := dk_189 0 114 (dk_at dksX0_init_11 7 rfl rfl)
theorem dX0_init_272 : decode cX0_init 272 = .ok (.dup, 1) := dk_89 (dk_at dksX0_init_11 10 rfl rfl)
theorem dX0_init_273 : decode cX0_init 273 = .ok (.iconst 0, 1) := dk_3 (dk_at dksX0_init_11 11 rfl rfl)
theorem dX0_init_274 : decode cX0_init 274 = .ok (.new 114, 3) := dk_187 0 114 (dk_at dksX0_init_11 12 rfl rfl)
theorem dX0_init_277 : decode cX0_init 277 = .ok (.dup, 1) := dk_89 (dk_at dksX0_init_11 15 rfl rfl)
theorem dX0_init_278 : decode cX0_init 278 = .ok (.invokespecial 116, 3) := dk_183 0 116 (dk_at dksX0_init_11 16 rfl rfl)
theorem dX0_init_281 : decode cX0_init 281 = .ok (.aastore, 1) := dk_83 (dk_at dksX0_init_11 19 rfl rfl)
theorem dX0_init_282 : decode cX0_init 282 = .ok (.dup, 1) := dk_89 (dk_at dksX0_init_11 20 rfl rfl)
theorem dX0_init_283 : decode cX0_init 283 = .ok (.iconst 1, 1) := dk_4 (dk_at dksX0_init_11 21 rfl rfl)
theorem dX0_init_284 : decode cX0_init 284 = .ok (.new 114, 3) := dk_187 0 114 (dk_at dksX0_init_12 0 rfl rfl)
theorem dX0_init_287 : decode cX0_init 287 = .ok (.dup, 1) := dk_89 (dk_at dksX0_init_12 3 rfl rfl)
theorem dX0_init_288 : decode cX0_init 288 = .ok (.invokespecial 116, 3) := dk_183 0 116 (dk_at dksX0_init_12 4 rfl rfl)
theorem dX0_init_291 : decode cX0_init 291 = .ok (.aastore, 1) := dk_83 (dk_at dksX0_init_12 7 rfl rfl)
theorem dX0_init_292 : decode cX0_init 292 = .ok (.putfield 117, 3) := dk_181 0 117 (dk_at dksX0_init_12 8 rfl rfl)
theorem dX0_init_295 : decode cX0_init 295 = .ok (.aload_n 0, 1) := dk_42 (dk_at dksX0_init_12 11 rfl rfl)
theorem dX0_init_296 : decode cX0_init 296 = .ok (.iconst 4, 1) := dk_7 (dk_at dksX0_init_12 12 rfl rfl)
theorem dX0_init_297 : decode cX0_init 297 = .ok (.newarray .int, 2) := dk_188_10 (dk_at dksX0_init_12 13 rfl rfl)
theorem dX0_init_299 : decode cX0_init 299 = .ok (.putfield 121, 3) := dk_181 0 121 (dk_at dksX0_init_12 15 rfl rfl)
theorem dX0_init_302 : decode cX0_init 302 = .ok (.aload_n 0, 1) := dk_42 (dk_at dksX0_init_12 18 rfl rfl)
theorem dX0_init_303 : decode cX0_init 303 = .ok (.iconst 4, 1) := dk_7 (dk_at dksX0_init_12 19 rfl rfl)
theorem dX0_init_304 : decode cX0_init 304 = .ok (.newarray .int, 2) := dk_188_10 (dk_at dksX0_init_12 20 rfl rfl)
theorem dX0_init_306 : decode cX0_init 306 = .ok (.putfield 124, 3) := dk_181 0 124 (dk_at dksX0_init_13 0 rfl rfl)
theorem dX0_init_309 : decode cX0_init 309 = .ok (.aload_n 0, 1) := dk_42 (dk_at dksX0_init_13 3 rfl rfl)
theorem dX0_init_310 : decode cX0_init 310 = .ok (.bipush 12, 2) := dk_16 12 (dk_at dksX0_init_13 4 rfl rfl)
theorem dX0_init_312 : decode cX0_init 312 = .ok (.newarray .int, 2) := dk_188_10 (dk_at dksX0_init_13 6 rfl rfl)
theorem dX0_init_314 : decode cX0_init 314 = .ok (.putfield 127, 3) := dk_181 0 127 (dk_at dksX0_init_13 8 rfl rfl)
theorem dX0_init_317 : decode cX0_init 317 = .ok (.aload_n 0, 1) := dk_42 (dk_at dksX0_init_13 11 rfl rfl)
theorem dX0_init_318 : decode cX0_init 318 = .ok (.bipush 7, 2) := dk_16 7 (dk_at dksX0_init_13 12 rfl rfl)
theorem dX0_init_320 : decode cX0_init 320 = .ok (.newarray .int, 2) := dk_188_10 (dk_at dksX0_init_13 14 rfl rfl)
theorem dX0_init_322 : decode cX0_init 322 = .ok (.putfield 130, 3) := dk_181 0 130 (dk_at dksX0_init_13 16 rfl rfl)
theorem dX0_init_325 : decode cX0_init 325 = .ok (.aload_n 0, 1) := dk_42 (dk_at dksX0_init_13 19 rfl rfl)
theorem dX0_init_326 : decode cX0_init 326 = .ok (.bipush 7, 2) := dk_16 7 (dk_at dksX0_init_13 20 rfl rfl)
theorem dX0_init_328 : decode cX0_init 328 = .ok (.newarray .int, 2) := dk_188_10 (dk_at dksX0_init_13 22 rfl rfl)
theorem dX0_init_330 : decode cX0_init 330 = .ok (.putfield 133, 3) := dk_181 0 133 (dk_at dksX0_init_14 0 rfl rfl)
theorem dX0_init_333 : decode cX0_init 333 = .ok (.aload_n 0, 1) := dk_42 (dk_at dksX0_init_14 3 rfl rfl)
theorem dX0_init_334 : decode cX0_init 334 = .ok (.bipush 16, 2) := dk_16 16 (dk_at dksX0_init_14 4 rfl rfl)
theorem dX0_init_336 : decode cX0_init 336 = .ok (.anewarray 136, 3) := dk_189 0 136 (dk_at dksX0_init_14 6 rfl rfl)
theorem dX0_init_339 : decode cX0_init 339 = .ok (.putfield 138, 3) := dk_181 0 138 (dk_at dksX0_init_14 9 rfl rfl)
theorem dX0_init_342 : decode cX0_init 342 = .ok (.aload_n 0, 1) := dk_42 (dk_at dksX0_init_14 12 rfl rfl)
theorem dX0_init_343 : decode cX0_init 343 = .ok (.iconst (-1), 1) := dk_2 (dk_at dksX0_init_14 13 rfl rfl)
theorem dX0_init_344 : decode cX0_init 344 = .ok (.putfield 142, 3) := dk_181 0 142 (dk_at dksX0_init_14 14 rfl rfl)
theorem dX0_init_347 : decode cX0_init 347 = .ok (.aload_n 0, 1) := dk_42 (dk_at dksX0_init_14 17 rfl rfl)
theorem dX0_init_348 : decode cX0_init 348 = .ok (.iconst 2, 1) := dk_5 (dk_at dksX0_init_14 18 rfl rfl)
theorem dX0_init_349 : decode cX0_init 349 = .ok (.newarray .int, 2) := dk_188_10 (dk_at dksX0_init_14 19 rfl rfl)
theorem dX0_init_351 : decode cX0_init 351 = .ok (.putfield 145, 3) := dk_181 0 145 (dk_at dksX0_init_14 21 rfl rfl)
theorem dX0_init_354 : decode cX0_init 354 = .ok (.aload_n 0, 1) := dk_42 (dk_at dksX0_init_15 0 rfl rfl)
theorem dX0_init_355 : decode cX0_init 355 = .ok (.bipush 40, 2) := dk_16 40 (dk_at dksX0_init_15 1 rfl rfl)
theorem dX0_init_357 : decode cX0_init 357 = .ok (.anewarray 148, 3) := dk_189 0 148 (dk_at dksX0_init_15 3 rfl rfl)
theorem dX0_init_360 : decode cX0_init 360 = .ok (.putfield 150, 3) := dk_181 0 150 (dk_at dksX0_init_15 6 rfl rfl)
theorem dX0_init_363 : decode cX0_init 363 = .ok (.aload_n 0, 1) := dk_42 (dk_at dksX0_init_15 9 rfl rfl)
theorem dX0_init_364 : decode cX0_init 364 = .ok (.iconst 4, 1) := dk_7 (dk_at dksX0_init_15 10 rfl rfl)
theorem dX0_init_365 : decode cX0_init 365 = .ok (.anewarray 154, 3) := dk_189 0 154 (dk_at dksX0_init_15 11 rfl rfl)
theorem dX0_init_368 : decode cX0_init 368 = .ok (.putfield 156, 3) := dk_181 0 156 (dk_at dksX0_init_15 14 rfl rfl)
theorem dX0_init_371 : decode cX0_init 371 = .ok (.aload_n 0, 1) := dk_42 (dk_at dksX0_init_15 17 rfl rfl)
theorem dX0_init_372 : decode cX0_init 372 = .ok (.bipush 8, 2) := dk_16 8 (dk_at dksX0_init_15 18 rfl rfl)
theorem dX0_init_374 : decode cX0_init 374 = .ok (.newarray .int, 2) := dk_188_10 (dk_at dksX0_init_15 20 rfl rfl)
theorem dX0_init_376 : decode cX0_init 376 = .ok (.putfield 160, 3) := dk_181 0 160 (dk_at dksX0_init_16 0 rfl rfl)
theorem dX0_init_379 : decode cX0_init 379 = .ok (.aload_n 0, 1) := dk_42 (dk_at dksX0_init_16 3 rfl rfl)
theorem dX0_init_380 : decode cX0_init 380 = .ok (.bipush 8, 2) := dk_16 8 (dk_at dksX0_init_16 4 rfl rfl)
theorem dX0_init_382 : decode cX0_init 382 = .ok (.newarray .int, 2) := dk_188_10 (dk_at dksX0_init_16 6 rfl rfl)
theorem dX0_init_384 : decode cX0_init 384 = .ok (.putfield 163, 3) := dk_181 0 163 (dk_at dksX0_init_16 8 rfl rfl)
theorem dX0_init_387 : decode cX0_init 387 = .ok (.aload_n 0, 1) := dk_42 (dk_at dksX0_init_16 11 rfl rfl)
theorem dX0_init_388 : decode cX0_init 388 = .ok (.bipush 8, 2) := dk_16 8 (dk_at dksX0_init_16 12 rfl rfl)
theorem dX0_init_390 : decode cX0_init 390 = .ok (.newarray .int, 2) := dk_188_10 (dk_at dksX0_init_16 14 rfl rfl)
theorem dX0_init_392 : decode cX0_init 392 = .ok (.putfield 166, 3) := dk_181 0 166 (dk_at dksX0_init_16 16 rfl rfl)
theorem dX0_init_395 : decode cX0_init 395 = .ok (.aload_n 0, 1) := dk_42 (dk_at dksX0_init_16 19 rfl rfl)
theorem dX0_init_396 : decode cX0_init 396 = .ok (.bipush 100, 2) := dk_16 100 (dk_at dksX0_init_16 20 rfl rfl)
theorem dX0_init_398 : decode cX0_init 398 = .ok (.newarray .int, 2) := dk_188_10 (dk_at dksX0_init_16 22 rfl rfl)
theorem dX0_init_400 : decode cX0_init 400 = .ok (.putfield 169, 3) := dk_181 0 169 (dk_at dksX0_init_17 0 rfl rfl)
theorem dX0_init_403 : decode cX0_init 403 = .ok (.aload_n 0, 1) := dk_42 (dk_at dksX0_init_17 3 rfl rfl)
theorem dX0_init_404 : decode cX0_init 404 = .ok (.bipush 100, 2) := dk_16 100 (dk_at dksX0_init_17 4 rfl rfl)
theorem dX0_init_406 : decode cX0_init 406 = .ok (.newarray .int, 2) := dk_188_10 (dk_at dksX0_init_17 6 rfl rfl)
theorem dX0_init_408 : decode cX0_init 408 = .ok (.putfield 172, 3) := dk_181 0 172 (dk_at dksX0_init_17 8 rfl rfl)
theorem dX0_init_411 : decode cX0_init 411 = .ok (.aload_n 0, 1) := dk_42 (dk_at dksX0_init_17 11 rfl rfl)
theorem dX0_init_412 : decode cX0_init 412 = .ok (.bipush 100, 2) := dk_16 100 (dk_at dksX0_init_17 12 rfl rfl)
theorem dX0_init_414 : decode cX0_init 414 = .ok (.newarray .int, 2) := dk_188_10 (dk_at dksX0_init_17 14 rfl rfl)
theorem dX0_init_416 : decode cX0_init 416 = .ok (.putfield 175, 3) := dk_181 0 175 (dk_at dksX0_init_17 16 rfl rfl)
theorem dX0_init_419 : decode cX0_init 419 = .ok (.aload_n 0, 1) := dk_42 (dk_at dksX0_init_17 19 rfl rfl)
theorem dX0_init_420 : decode cX0_init 420 = .ok (.bipush 100, 2) := dk_16 100 (dk_at dksX0_init_17 20 rfl rfl)
theorem dX0_init_422 : decode cX0_init 422 = .ok (.newarray .int, 2) := dk_188_10 (dk_at dksX0_init_17 22 rfl rfl)
theorem dX0_init_424 : decode cX0_init 424 = .ok (.putfield 178, 3) := dk_181 0 178 (dk_at dksX0_init_18 0 rfl rfl)
theorem dX0_init_427 : decode cX0_init 427 = .ok (.return_, 1) := dk_177 (dk_at dksX0_init_18 3 rfl rfl)
abbrev cX0_flowers : ByteArray := prog_1_method_8_code
def yX0_flowers : MethodName := ⟨RX0, "flowers", "(III)Z"⟩
def dkwX0_flowers_1 : List UInt8 := [184, 0, 199, 154, 0, 5, 3, 172, 42, 180, 0, 18, 27, 28, 79, 42, 180, 0, 22, 27, 29, 79, 4, 172]
abbrev dktX0_flowers_1 : List UInt8 := dkwX0_flowers_1 ++ []
def dkwX0_flowers_0 : List UInt8 := [27, 3, 8, 184, 0, 199, 153, 0, 23, 28, 3, 16, 9, 184, 0, 199, 153, 0, 13, 29, 3, 16, 9]
abbrev dktX0_flowers_0 : List UInt8 := dkwX0_flowers_0 ++ dktX0_flowers_1
theorem dksX0_flowers_0 : cX0_flowers.data.toList.drop 0 = dktX0_flowers_0 := by decide +kernel
theorem dksX0_flowers_1 : cX0_flowers.data.toList.drop 23 = dktX0_flowers_1 := dk_seg dksX0_flowers_0 23 rfl rfl
theorem dX0_flowers_0 : decode cX0_flowers 0 = .ok (.iload_n 1, 1) := dk_27 (dk_at dksX0_flowers_0 0 rfl rfl)
theorem dX0_flowers_1 : decode cX0_flowers 1 = .ok (.iconst 0, 1) := dk_3 (dk_at dksX0_flowers_0 1 rfl rfl)
theorem dX0_flowers_2 : decode cX0_flowers 2 = .ok (.iconst 5, 1) := dk_8 (dk_at dksX0_flowers_0 2 rfl rfl)
theorem dX0_flowers_3 : decode cX0_flowers 3 = .ok (.invokestatic 199, 3) := dk_184 0 199 (dk_at dksX0_flowers_0 3 rfl rfl)
theorem dX0_flowers_6 : decode cX0_flowers 6 = .ok (.ifCond .eq 23, 3) := dk_153 0 23 (dk_at dksX0_flowers_0 6 rfl rfl)
theorem dX0_flowers_9 : decode cX0_flowers 9 = .ok (.iload_n 2, 1) := dk_28 (dk_at dksX0_flowers_0 9 rfl rfl)
theorem dX0_flowers_10 : decode cX0_flowers 10 = .ok (.iconst 0, 1) := dk_3 (dk_at dksX0_flowers_0 10 rfl rfl)
theorem dX0_flowers_11 : decode cX0_flowers 11 = .ok (.bipush 9, 2) := dk_16 9 (dk_at dksX0_flowers_0 11 rfl rfl)
theorem dX0_flowers_13 : decode cX0_flowers 13 = .ok (.invokestatic 199, 3) := dk_184 0 199 (dk_at dksX0_flowers_0 13 rfl rfl)
theorem dX0_flowers_16 : decode cX0_flowers 16 = .ok (.ifCond .eq 13, 3) := dk_153 0 13 (dk_at dksX0_flowers_0 16 rfl rfl)
theorem dX0_flowers_19 : decode cX0_flowers 19 = .ok (.iload_n 3, 1) := dk_29 (dk_at dksX0_flowers_0 19 rfl rfl)
theorem dX0_flowers_20 : decode cX0_flowers 20 = .ok (.iconst 0, 1) := dk_3 (dk_at dksX0_flowers_0 20 rfl rfl)
theorem dX0_flowers_21 : decode cX0_flowers 21 = .ok (.bipush 9, 2) := dk_16 9 (dk_at dksX0_flowers_0 21 rfl rfl)
theorem dX0_flowers_23 : decode cX0_flowers 23 = .ok (.invokestatic 199, 3) := dk_184 0 199 (dk_at dksX0_flowers_1 0 rfl rfl)
theorem dX0_flowers_26 : decode cX0_flowers 26 = .ok (.ifCond .ne 5, 3) := dk_154 0 5 (dk_at dksX0_flowers_1 3 rfl rfl)
theorem dX0_flowers_29 : decode cX0_flowers 29 = .ok (.iconst 0, 1) := dk_3 (dk_at dksX0_flowers_1 6 rfl rfl)
theorem dX0_flowers_30 : decode cX0_flowers 30 = .ok (.ireturn, 1) := dk_172 (dk_at dksX0_flowers_1 7 rfl rfl)
theorem dX0_flowers_31 : decode cX0_flowers 31 = .ok (.aload_n 0, 1) := dk_42 (dk_at dksX0_flowers_1 8 rfl rfl)
theorem dX0_flowers_32 : decode cX0_flowers 32 = .ok (.getfield 18, 3) := dk_180 0 18 (dk_at dksX0_flowers_1 9 rfl rfl)
theorem dX0_flowers_35 : decode cX0_flowers 35 = .ok (.iload_n 1, 1) := dk_27 (dk_at dksX0_flowers_1 12 rfl rfl)
theorem dX0_flowers_36 : decode cX0_flowers 36 = .ok (.iload_n 2, 1) := dk_28 (dk_at dksX0_flowers_1 13 rfl rfl)
theorem dX0_flowers_37 : decode cX0_flowers 37 = .ok (.iastore, 1) := dk_79 (dk_at dksX0_flowers_1 14 rfl rfl)
theorem dX0_flowers_38 : decode cX0_flowers 38 = .ok (.aload_n 0, 1) := dk_42 (dk_at dksX0_flowers_1 15 rfl rfl)
theorem dX0_flowers_39 : decode cX0_flowers 39 = .ok (.getfield 22, 3) := dk_180 0 22 (dk_at dksX0_flowers_1 16 rfl rfl)
theorem dX0_flowers_42 : decode cX0_flowers 42 = .ok (.iload_n 1, 1) := dk_27 (dk_at dksX0_flowers_1 19 rfl rfl)
theorem dX0_flowers_43 : decode cX0_flowers 43 = .ok (.iload_n 3, 1) := dk_29 (dk_at dksX0_flowers_1 20 rfl rfl)
theorem dX0_flowers_44 : decode cX0_flowers 44 = .ok (.iastore, 1) := dk_79 (dk_at dksX0_flowers_1 21 rfl rfl)
theorem dX0_flowers_45 : decode cX0_flowers 45 = .ok (.iconst 1, 1) := dk_4 (dk_at dksX0_flowers_1 22 rfl rfl)
theorem dX0_flowers_46 : decode cX0_flowers 46 = .ok (.ireturn, 1) := dk_172 (dk_at dksX0_flowers_1 23 rfl rfl)
abbrev cX0_isIn : ByteArray := prog_1_method_2_code
def yX0_isIn : MethodName := ⟨RX0, "isIn", "(III)Z"⟩
def dkwX0_isIn_0 : List UInt8 := [26, 27, 161, 0, 12, 26, 28, 163, 0, 7, 4, 167, 0, 4, 3, 172]
abbrev dktX0_isIn_0 : List UInt8 := dkwX0_isIn_0 ++ []
theorem dksX0_isIn_0 : cX0_isIn.data.toList.drop 0 = dktX0_isIn_0 := by decide +kernel
theorem dX0_isIn_0 : decode cX0_isIn 0 = .ok (.iload_n 0, 1) := dk_26 (dk_at dksX0_isIn_0 0 rfl rfl)
theorem dX0_isIn_1 : decode cX0_isIn 1 = .ok (.iload_n 1, 1) := dk_27 (dk_at dksX0_isIn_0 1 rfl rfl)
theorem dX0_isIn_2 : decode cX0_isIn 2 = .ok (.if_icmp .lt 12, 3) := dk_161 0 12 (dk_at dksX0_isIn_0 2 rfl rfl)
theorem dX0_isIn_5 : decode cX0_isIn 5 = .ok (.iload_n 0, 1) := dk_26 (dk_at dksX0_isIn_0 5 rfl rfl)
theorem dX0_isIn_6 : decode cX0_isIn 6 = .ok (.iload_n 2, 1) := dk_28 (dk_at dksX0_isIn_0 6 rfl rfl)
theorem dX0_isIn_7 : decode cX0_isIn 7 = .ok (.if_icmp .gt 7, 3) := dk_163 0 7 (dk_at dksX0_isIn_0 7 rfl rfl)
theorem dX0_isIn_10 : decode cX0_isIn 10 = .ok (.iconst 1, 1) := dk_4 (dk_at dksX0_isIn_0 10 rfl rfl)
theorem dX0_isIn_11 : decode cX0_isIn 11 = .ok (.goto 4, 3) := dk_167 0 4 (dk_at dksX0_isIn_0 11 rfl rfl)
theorem dX0_isIn_14 : decode cX0_isIn 14 = .ok (.iconst 0, 1) := dk_3 (dk_at dksX0_isIn_0 14 rfl rfl)
theorem dX0_isIn_15 : decode cX0_isIn 15 = .ok (.ireturn, 1) := dk_172 (dk_at dksX0_isIn_0 15 rfl rfl)
abbrev cX0_ledge : ByteArray := prog_1_method_9_code
def yX0_ledge : MethodName := ⟨RX0, "ledge", "(IIII)I"⟩
def dkwX0_ledge_7 : List UInt8 := [180, 0, 196, 4, 96, 181, 0, 196, 42, 180, 0, 196, 4, 100, 172]
abbrev dktX0_ledge_7 : List UInt8 := dkwX0_ledge_7 ++ []
def dkwX0_ledge_6 : List UInt8 := [42, 180, 0, 15, 42, 180, 0, 196, 187, 0, 9, 89, 27, 28, 29, 21, 4, 183, 0, 211, 83, 42, 89]
abbrev dktX0_ledge_6 : List UInt8 := dkwX0_ledge_6 ++ dktX0_ledge_7
def dkwX0_ledge_5 : List UInt8 := [167, 255, 214, 42, 180, 0, 11, 42, 180, 0, 196, 187, 0, 9, 89, 27, 28, 29, 21, 4, 183, 0, 211, 83]
abbrev dktX0_ledge_5 : List UInt8 := dkwX0_ledge_5 ++ dktX0_ledge_6
def dkwX0_ledge_4 : List UInt8 := [160, 0, 19, 42, 180, 0, 11, 21, 6, 50, 180, 0, 209, 28, 160, 0, 5, 2, 172, 132, 6, 1]
abbrev dktX0_ledge_4 : List UInt8 := dkwX0_ledge_4 ++ dktX0_ledge_5
def dkwX0_ledge_3 : List UInt8 := [54, 6, 21, 6, 42, 180, 0, 196, 162, 0, 39, 42, 180, 0, 11, 21, 6, 50, 180, 0, 206, 27]
abbrev dktX0_ledge_3 : List UInt8 := dkwX0_ledge_3 ++ dktX0_ledge_4
def dkwX0_ledge_2 : List UInt8 := [167, 0, 4, 3, 54, 5, 21, 5, 153, 0, 12, 42, 180, 0, 196, 16, 12, 160, 0, 5, 2, 172, 3]
abbrev dktX0_ledge_2 : List UInt8 := dkwX0_ledge_2 ++ dktX0_ledge_3
def dkwX0_ledge_1 : List UInt8 := [184, 0, 199, 153, 0, 22, 21, 4, 2, 42, 180, 0, 203, 4, 100, 184, 0, 199, 153, 0, 7, 4]
abbrev dktX0_ledge_1 : List UInt8 := dkwX0_ledge_1 ++ dktX0_ledge_2
def dkwX0_ledge_0 : List UInt8 := [27, 3, 16, 15, 184, 0, 199, 153, 0, 42, 28, 3, 16, 98, 184, 0, 199, 153, 0, 32, 29, 3, 16, 9]
abbrev dktX0_ledge_0 : List UInt8 := dkwX0_ledge_0 ++ dktX0_ledge_1
theorem dksX0_ledge_0 : cX0_ledge.data.toList.drop 0 = dktX0_ledge_0 := by decide +kernel
theorem dksX0_ledge_1 : cX0_ledge.data.toList.drop 24 = dktX0_ledge_1 := dk_seg dksX0_ledge_0 24 rfl rfl
theorem dksX0_ledge_2 : cX0_ledge.data.toList.drop 46 = dktX0_ledge_2 := dk_seg dksX0_ledge_1 22 rfl rfl
theorem dksX0_ledge_3 : cX0_ledge.data.toList.drop 69 = dktX0_ledge_3 := dk_seg dksX0_ledge_2 23 rfl rfl
theorem dksX0_ledge_4 : cX0_ledge.data.toList.drop 91 = dktX0_ledge_4 := dk_seg dksX0_ledge_3 22 rfl rfl
theorem dksX0_ledge_5 : cX0_ledge.data.toList.drop 113 = dktX0_ledge_5 := dk_seg dksX0_ledge_4 22 rfl rfl
theorem dksX0_ledge_6 : cX0_ledge.data.toList.drop 137 = dktX0_ledge_6 := dk_seg dksX0_ledge_5 24 rfl rfl
theorem dksX0_ledge_7 : cX0_ledge.data.toList.drop 160 = dktX0_ledge_7 := dk_seg dksX0_ledge_6 23 rfl rfl
theorem dX0_ledge_0 : decode cX0_ledge 0 = .ok (.iload_n 1, 1) := dk_27 (dk_at dksX0_ledge_0 0 rfl rfl)
theorem dX0_ledge_1 : decode cX0_ledge 1 = .ok (.iconst 0, 1) := dk_3 (dk_at dksX0_ledge_0 1 rfl rfl)
theorem dX0_ledge_2 : decode cX0_ledge 2 = .ok (.bipush 15, 2) := dk_16 15 (dk_at dksX0_ledge_0 2 rfl rfl)
theorem dX0_ledge_4 : decode cX0_ledge 4 = .ok (.invokestatic 199, 3) := dk_184 0 199 (dk_at dksX0_ledge_0 4 rfl rfl)
theorem dX0_ledge_7 : decode cX0_ledge 7 = .ok (.ifCond .eq 42, 3) := dk_153 0 42 (dk_at dksX0_ledge_0 7 rfl rfl)
theorem dX0_ledge_10 : decode cX0_ledge 10 = .ok (.iload_n 2, 1) := dk_28 (dk_at dksX0_ledge_0 10 rfl rfl)
theorem dX0_ledge_11 : decode cX0_ledge 11 = .ok (.iconst 0, 1) := dk_3 (dk_at dksX0_ledge_0 11 rfl rfl)
theorem dX0_ledge_12 : decode cX0_ledge 12 = .ok (.bipush 98, 2) := dk_16 98 (dk_at dksX0_ledge_0 12 rfl rfl)
theorem dX0_ledge_14 : decode cX0_ledge 14 = .ok (.invokestatic 199, 3) := dk_184 0 199 (dk_at dksX0_ledge_0 14 rfl rfl)
theorem dX0_ledge_17 : decode cX0_ledge 17 = .ok (.ifCond .eq 32, 3) := dk_153 0 32 (dk_at dksX0_ledge_0 17 rfl rfl)
theorem dX0_ledge_20 : decode cX0_ledge 20 = .ok (.iload_n 3, 1) := dk_29 (dk_at dksX0_ledge_0 20 rfl rfl)
theorem dX0_ledge_21 : decode cX0_ledge 21 = .ok (.iconst 0, 1) := dk_3 (dk_at dksX0_ledge_0 21 rfl rfl)
theorem dX0_ledge_22 : decode cX0_ledge 22 = .ok (.bipush 9, 2) := dk_16 9 (dk_at dksX0_ledge_0 22 rfl rfl)
theorem dX0_ledge_24 : decode cX0_ledge 24 = .ok (.invokestatic 199, 3) := dk_184 0 199 (dk_at dksX0_ledge_1 0 rfl rfl)
theorem dX0_ledge_27 : decode cX0_ledge 27 = .ok (.ifCond .eq 22, 3) := dk_153 0 22 (dk_at dksX0_ledge_1 3 rfl rfl)
theorem dX0_ledge_30 : decode cX0_ledge 30 = .ok (.iload 4, 2) := dk_21 4 (dk_at dksX0_ledge_1 6 rfl rfl)
theorem dX0_ledge_32 : decode cX0_ledge 32 = .ok (.iconst (-1), 1) := dk_2 (dk_at dksX0_ledge_1 8 rfl rfl)
theorem dX0_ledge_33 : decode cX0_ledge 33 = .ok (.aload_n 0, 1) := dk_42 (dk_at dksX0_ledge_1 9 rfl rfl)
theorem dX0_ledge_34 : decode cX0_ledge 34 = .ok (.getfield 203, 3) := dk_180 0 203 (dk_at dksX0_ledge_1 10 rfl rfl)
theorem dX0_ledge_37 : decode cX0_ledge 37 = .ok (.iconst 1, 1) := dk_4 (dk_at dksX0_ledge_1 13 rfl rfl)
theorem dX0_ledge_38 : decode cX0_ledge 38 = .ok (.isub, 1) := dk_100 (dk_at dksX0_ledge_1 14 rfl rfl)
theorem dX0_ledge_39 : decode cX0_ledge 39 = .ok (.invokestatic 199, 3) := dk_184 0 199 (dk_at dksX0_ledge_1 15 rfl rfl)
theorem dX0_ledge_42 : decode cX0_ledge 42 = .ok (.ifCond .eq 7, 3) := dk_153 0 7 (dk_at dksX0_ledge_1 18 rfl rfl)
theorem dX0_ledge_45 : decode cX0_ledge 45 = .ok (.iconst 1, 1) := dk_4 (dk_at dksX0_ledge_1 21 rfl rfl)
theorem dX0_ledge_46 : decode cX0_ledge 46 = .ok (.goto 4, 3) := dk_167 0 4 (dk_at dksX0_ledge_2 0 rfl rfl)
theorem dX0_ledge_49 : decode cX0_ledge 49 = .ok (.iconst 0, 1) := dk_3 (dk_at dksX0_ledge_2 3 rfl rfl)
theorem dX0_ledge_50 : decode cX0_ledge 50 = .ok (.istore 5, 2) := dk_54 5 (dk_at dksX0_ledge_2 4 rfl rfl)
theorem dX0_ledge_52 : decode cX0_ledge 52 = .ok (.iload 5, 2) := dk_21 5 (dk_at dksX0_ledge_2 6 rfl rfl)
theorem dX0_ledge_54 : decode cX0_ledge 54 = .ok (.ifCond .eq 12, 3) := dk_153 0 12 (dk_at dksX0_ledge_2 8 rfl rfl)
theorem dX0_ledge_57 : decode cX0_ledge 57 = .ok (.aload_n 0, 1) := dk_42 (dk_at dksX0_ledge_2 11 rfl rfl)
theorem dX0_ledge_58 : decode cX0_ledge 58 = .ok (.getfield 196, 3) := dk_180 0 196 (dk_at dksX0_ledge_2 12 rfl rfl)
theorem dX0_ledge_61 : decode cX0_ledge 61 = .ok (.bipush 12, 2) := dk_16 12 (dk_at dksX0_ledge_2 15 rfl rfl)
theorem dX0_ledge_63 : decode cX0_ledge 63 = .ok (.if_icmp .ne 5, 3) := dk_160 0 5 (dk_at dksX0_ledge_2 17 rfl rfl)
theorem dX0_ledge_66 : decode cX0_ledge 66 = .ok (.iconst (-1), 1) := dk_2 (dk_at dksX0_ledge_2 20 rfl rfl)
theorem dX0_ledge_67 : decode cX0_ledge 67 = .ok (.ireturn, 1) := dk_172 (dk_at dksX0_ledge_2 21 rfl rfl)
theorem dX0_ledge_68 : decode cX0_ledge 68 = .ok (.iconst 0, 1) := dk_3 (dk_at dksX0_ledge_2 22 rfl rfl)
theorem dX0_ledge_69 : decode cX0_ledge 69 = .ok (.istore 6, 2) := dk_54 6 (dk_at dksX0_ledge_3 0 rfl rfl)
theorem dX0_ledge_71 : decode cX0_ledge 71 = .ok (.iload 6, 2) := dk_21 6 (dk_at dksX0_ledge_3 2 rfl rfl)
theorem dX0_ledge_73 : decode cX0_ledge 73 = .ok (.aload_n 0, 1) := dk_42 (dk_at dksX0_ledge_3 4 rfl rfl)
theorem dX0_ledge_74 : decode cX0_ledge 74 = .ok (.getfield 196, 3) := dk_180 0 196 (dk_at dksX0_ledge_3 5 rfl rfl)
theorem dX0_ledge_77 : decode cX0_ledge 77 = .ok (.if_icmp .ge 39, 3) := dk_162 0 39 (dk_at dksX0_ledge_3 8 rfl rfl)
theorem dX0_ledge_80 : decode cX0_ledge 80 = .ok (.aload_n 0, 1) := dk_42 (dk_at dksX0_ledge_3 11 rfl rfl)
theorem dX0_ledge_81 : decode cX0_ledge 81 = .ok (.getfield 11, 3) := dk_180 0 11 (dk_at dksX0_ledge_3 12 rfl rfl)
theorem dX0_ledge_84 : decode cX0_ledge 84 = .ok (.iload 6, 2) := dk_21 6 (dk_at dksX0_ledge_3 15 rfl rfl)
theorem dX0_ledge_86 : decode cX0_ledge 86 = .ok (.aaload, 1) := dk_50 (dk_at dksX0_ledge_3 17 rfl rfl)
theorem dX0_ledge_87 : decode cX0_ledge 87 = .ok (.getfield 206, 3) := dk_180 0 206 (dk_at dksX0_ledge_3 18 rfl rfl)
theorem dX0_ledge_90 : decode cX0_ledge 90 = .ok (.iload_n 1, 1) := dk_27 (dk_at dksX0_ledge_3 21 rfl rfl)
theorem dX0_ledge_91 : decode cX0_ledge 91 = .ok (.if_icmp .ne 19, 3) := dk_160 0 19 (dk_at dksX0_ledge_4 0 rfl rfl)
theorem dX0_ledge_94 : decode cX0_ledge 94 = .ok (.aload_n 0, 1) := dk_42 (dk_at dksX0_ledge_4 3 rfl rfl)
theorem dX0_ledge_95 : decode cX0_ledge 95 = .ok (.getfield 11, 3) := dk_180 0 11 (dk_at dksX0_ledge_4 4 rfl rfl)
theorem dX0_ledge_98 : decode cX0_ledge 98 = .ok (.iload 6, 2) := dk_21 6 (dk_at dksX0_ledge_4 7 rfl rfl)
theorem dX0_ledge_100 : decode cX0_ledge 100 = .ok (.aaload, 1) := dk_50 (dk_at dksX0_ledge_4 9 rfl rfl)
theorem dX0_ledge_101 : decode cX0_ledge 101 = .ok (.getfield 209, 3) := dk_180 0 209 (dk_at dksX0_ledge_4 10 rfl rfl)
theorem dX0_ledge_104 : decode cX0_ledge 104 = .ok (.iload_n 2, 1) := dk_28 (dk_at dksX0_ledge_4 13 rfl rfl)
theorem dX0_ledge_105 : decode cX0_ledge 105 = .ok (.if_icmp .ne 5, 3) := dk_160 0 5 (dk_at dksX0_ledge_4 14 rfl rfl)
theorem dX0_ledge_108 : decode cX0_ledge 108 = .ok (.iconst (-1), 1) := dk_2 (dk_at dksX0_ledge_4 17 rfl rfl)
theorem dX0_ledge_109 : decode cX0_ledge 109 = .ok (.ireturn, 1) := dk_172 (dk_at dksX0_ledge_4 18 rfl rfl)
theorem dX0_ledge_110 : decode cX0_ledge 110 = .ok (.iinc 6 1, 3) := dk_132 6 1 (dk_at dksX0_ledge_4 19 rfl rfl)
theorem dX0_ledge_113 : decode cX0_ledge 113 = .ok (.goto (-42), 3) := dk_167 255 214 (dk_at dksX0_ledge_5 0 rfl rfl)
theorem dX0_ledge_116 : decode cX0_ledge 116 = .ok (.aload_n 0, 1) := dk_42 (dk_at dksX0_ledge_5 3 rfl rfl)
theorem dX0_ledge_117 : decode cX0_ledge 117 = .ok (.getfield 11, 3) := dk_180 0 11 (dk_at dksX0_ledge_5 4 rfl rfl)
theorem dX0_ledge_120 : decode cX0_ledge 120 = .ok (.aload_n 0, 1) := dk_42 (dk_at dksX0_ledge_5 7 rfl rfl)
theorem dX0_ledge_121 : decode cX0_ledge 121 = .ok (.getfield 196, 3) := dk_180 0 196 (dk_at dksX0_ledge_5 8 rfl rfl)
theorem dX0_ledge_124 : decode cX0_ledge 124 = .ok (.new 9, 3) := dk_187 0 9 (dk_at dksX0_ledge_5 11 rfl rfl)
theorem dX0_ledge_127 : decode cX0_ledge 127 = .ok (.dup, 1) := dk_89 (dk_at dksX0_ledge_5 14 rfl rfl)
theorem dX0_ledge_128 : decode cX0_ledge 128 = .ok (.iload_n 1, 1) := dk_27 (dk_at dksX0_ledge_5 15 rfl rfl)
theorem dX0_ledge_129 : decode cX0_ledge 129 = .ok (.iload_n 2, 1) := dk_28 (dk_at dksX0_ledge_5 16 rfl rfl)
theorem dX0_ledge_130 : decode cX0_ledge 130 = .ok (.iload_n 3, 1) := dk_29 (dk_at dksX0_ledge_5 17 rfl rfl)
theorem dX0_ledge_131 : decode cX0_ledge 131 = .ok (.iload 4, 2) := dk_21 4 (dk_at dksX0_ledge_5 18 rfl rfl)
theorem dX0_ledge_133 : decode cX0_ledge 133 = .ok (.invokespecial 211, 3) := dk_183 0 211 (dk_at dksX0_ledge_5 20 rfl rfl)
theorem dX0_ledge_136 : decode cX0_ledge 136 = .ok (.aastore, 1) := dk_83 (dk_at dksX0_ledge_5 23 rfl rfl)
theorem dX0_ledge_137 : decode cX0_ledge 137 = .ok (.aload_n 0, 1) := dk_42 (dk_at dksX0_ledge_6 0 rfl rfl)
theorem dX0_ledge_138 : decode cX0_ledge 138 = .ok (.getfield 15, 3) := dk_180 0 15 (dk_at dksX0_ledge_6 1 rfl rfl)
theorem dX0_ledge_141 : decode cX0_ledge 141 = .ok (.aload_n 0, 1) := dk_42 (dk_at dksX0_ledge_6 4 rfl rfl)
theorem dX0_ledge_142 : decode cX0_ledge 142 = .ok (.getfield 196, 3) := dk_180 0 196 (dk_at dksX0_ledge_6 5 rfl rfl)
theorem dX0_ledge_145 : decode cX0_ledge 145 = .ok (.new 9, 3) := dk_187 0 9 (dk_at dksX0_ledge_6 8 rfl rfl)
theorem dX0_ledge_148 : decode cX0_ledge 148 = .ok (.dup, 1) := dk_89 (dk_at dksX0_ledge_6 11 rfl rfl)
theorem dX0_ledge_149 : decode cX0_ledge 149 = .ok (.iload_n 1, 1) := dk_27 (dk_at dksX0_ledge_6 12 rfl rfl)
theorem dX0_ledge_150 : decode cX0_ledge 150 = .ok (.iload_n 2, 1) := dk_28 (dk_at dksX0_ledge_6 13 rfl rfl)
theorem dX0_ledge_151 : decode cX0_ledge 151 = .ok (.iload_n 3, 1) := dk_29 (dk_at dksX0_ledge_6 14 rfl rfl)
theorem dX0_ledge_152 : decode cX0_ledge 152 = .ok (.iload 4, 2) := dk_21 4 (dk_at dksX0_ledge_6 15 rfl rfl)
theorem dX0_ledge_154 : decode cX0_ledge 154 = .ok (.invokespecial 211, 3) := dk_183 0 211 (dk_at dksX0_ledge_6 17 rfl rfl)
theorem dX0_ledge_157 : decode cX0_ledge 157 = .ok (.aastore, 1) := dk_83 (dk_at dksX0_ledge_6 20 rfl rfl)
theorem dX0_ledge_158 : decode cX0_ledge 158 = .ok (.aload_n 0, 1) := dk_42 (dk_at dksX0_ledge_6 21 rfl rfl)
theorem dX0_ledge_159 : decode cX0_ledge 159 = .ok (.dup, 1) := dk_89 (dk_at dksX0_ledge_6 22 rfl rfl)
theorem dX0_ledge_160 : decode cX0_ledge 160 = .ok (.getfield 196, 3) := dk_180 0 196 (dk_at dksX0_ledge_7 0 rfl rfl)
theorem dX0_ledge_163 : decode cX0_ledge 163 = .ok (.iconst 1, 1) := dk_4 (dk_at dksX0_ledge_7 3 rfl rfl)
theorem dX0_ledge_164 : decode cX0_ledge 164 = .ok (.iadd, 1) := dk_96 (dk_at dksX0_ledge_7 4 rfl rfl)
theorem dX0_ledge_165 : decode cX0_ledge 165 = .ok (.putfield 196, 3) := dk_181 0 196 (dk_at dksX0_ledge_7 5 rfl rfl)
theorem dX0_ledge_168 : decode cX0_ledge 168 = .ok (.aload_n 0, 1) := dk_42 (dk_at dksX0_ledge_7 8 rfl rfl)
theorem dX0_ledge_169 : decode cX0_ledge 169 = .ok (.getfield 196, 3) := dk_180 0 196 (dk_at dksX0_ledge_7 9 rfl rfl)
theorem dX0_ledge_172 : decode cX0_ledge 172 = .ok (.iconst 1, 1) := dk_4 (dk_at dksX0_ledge_7 12 rfl rfl)
theorem dX0_ledge_173 : decode cX0_ledge 173 = .ok (.isub, 1) := dk_100 (dk_at dksX0_ledge_7 13 rfl rfl)
theorem dX0_ledge_174 : decode cX0_ledge 174 = .ok (.ireturn, 1) := dk_172 (dk_at dksX0_ledge_7 14 rfl rfl)
abbrev cX0_of : ByteArray := prog_1_method_10_code
def yX0_of : MethodName := ⟨RX0, "of", "(II)I"⟩
def dkwX0_of_4 : List UInt8 := [153, 0, 7, 4, 167, 0, 4, 3, 172, 45, 180, 0, 236, 172, 2, 172]
abbrev dktX0_of_4 : List UInt8 := dkwX0_of_4 ++ []
def dkwX0_of_3 : List UInt8 := [136, 172, 45, 180, 0, 226, 153, 0, 7, 4, 167, 0, 4, 3, 172, 45, 180, 0, 230, 172, 45, 180, 0, 233]
abbrev dktX0_of_3 : List UInt8 := dkwX0_of_3 ++ dktX0_of_4
def dkwX0_of_2 : List UInt8 := [45, 180, 0, 206, 172, 45, 180, 0, 209, 172, 45, 180, 0, 218, 172, 45, 180, 0, 220, 172, 45, 180, 0, 222]
abbrev dktX0_of_2 : List UInt8 := dkwX0_of_2 ++ dktX0_of_3
def dkwX0_of_1 : List UInt8 := [170, 0, 0, 0, 0, 112, 0, 0, 0, 0, 0, 0, 0, 8, 0, 0, 0, 50, 0, 0, 0, 55, 0, 0, 0, 60, 0, 0, 0, 65, 0, 0, 0, 70, 0, 0, 0, 76, 0, 0, 0, 89, 0, 0, 0, 94, 0, 0, 0, 107]
abbrev dktX0_of_1 : List UInt8 := dkwX0_of_1 ++ dktX0_of_2
def dkwX0_of_0 : List UInt8 := [42, 27, 182, 0, 214, 154, 0, 5, 2, 172, 42, 180, 0, 11, 27, 50, 78, 28]
abbrev dktX0_of_0 : List UInt8 := dkwX0_of_0 ++ dktX0_of_1
theorem dksX0_of_0 : cX0_of.data.toList.drop 0 = dktX0_of_0 := by decide +kernel
theorem dksX0_of_1 : cX0_of.data.toList.drop 18 = dktX0_of_1 := dk_seg dksX0_of_0 18 rfl rfl
theorem dksX0_of_2 : cX0_of.data.toList.drop 68 = dktX0_of_2 := dk_seg dksX0_of_1 50 rfl rfl
theorem dksX0_of_3 : cX0_of.data.toList.drop 92 = dktX0_of_3 := dk_seg dksX0_of_2 24 rfl rfl
theorem dksX0_of_4 : cX0_of.data.toList.drop 116 = dktX0_of_4 := dk_seg dksX0_of_3 24 rfl rfl
theorem dX0_of_0 : decode cX0_of 0 = .ok (.aload_n 0, 1) := dk_42 (dk_at dksX0_of_0 0 rfl rfl)
theorem dX0_of_1 : decode cX0_of 1 = .ok (.iload_n 1, 1) := dk_27 (dk_at dksX0_of_0 1 rfl rfl)
theorem dX0_of_2 : decode cX0_of 2 = .ok (.invokevirtual 214, 3) := dk_182 0 214 (dk_at dksX0_of_0 2 rfl rfl)
theorem dX0_of_5 : decode cX0_of 5 = .ok (.ifCond .ne 5, 3) := dk_154 0 5 (dk_at dksX0_of_0 5 rfl rfl)
theorem dX0_of_8 : decode cX0_of 8 = .ok (.iconst (-1), 1) := dk_2 (dk_at dksX0_of_0 8 rfl rfl)
theorem dX0_of_9 : decode cX0_of 9 = .ok (.ireturn, 1) := dk_172 (dk_at dksX0_of_0 9 rfl rfl)
theorem dX0_of_10 : decode cX0_of 10 = .ok (.aload_n 0, 1) := dk_42 (dk_at dksX0_of_0 10 rfl rfl)
theorem dX0_of_11 : decode cX0_of 11 = .ok (.getfield 11, 3) := dk_180 0 11 (dk_at dksX0_of_0 11 rfl rfl)
theorem dX0_of_14 : decode cX0_of 14 = .ok (.iload_n 1, 1) := dk_27 (dk_at dksX0_of_0 14 rfl rfl)
theorem dX0_of_15 : decode cX0_of 15 = .ok (.aaload, 1) := dk_50 (dk_at dksX0_of_0 15 rfl rfl)
theorem dX0_of_16 : decode cX0_of 16 = .ok (.astore_n 3, 1) := dk_78 (dk_at dksX0_of_0 16 rfl rfl)
theorem dX0_of_17 : decode cX0_of 17 = .ok (.iload_n 2, 1) := dk_28 (dk_at dksX0_of_0 17 rfl rfl)
theorem dX0_of_18 : decode cX0_of 18 = .ok (.tableswitch 112 0 8 #[50, 55, 60, 65, 70, 76, 89, 94, 107], 50) := by decide +kernel
theorem dX0_of_68 : decode cX0_of 68 = .ok (.aload_n 3, 1) := dk_45 (dk_at dksX0_of_2 0 rfl rfl)
theorem dX0_of_69 : decode cX0_of 69 = .ok (.getfield 206, 3) := dk_180 0 206 (dk_at dksX0_of_2 1 rfl rfl)
theorem dX0_of_72 : decode cX0_of 72 = .ok (.ireturn, 1) := dk_172 (dk_at dksX0_of_2 4 rfl rfl)
theorem dX0_of_73 : decode cX0_of 73 = .ok (.aload_n 3, 1) := dk_45 (dk_at dksX0_of_2 5 rfl rfl)
theorem dX0_of_74 : decode cX0_of 74 = .ok (.getfield 209, 3) := dk_180 0 209 (dk_at dksX0_of_2 6 rfl rfl)
theorem dX0_of_77 : decode cX0_of 77 = .ok (.ireturn, 1) := dk_172 (dk_at dksX0_of_2 9 rfl rfl)
theorem dX0_of_78 : decode cX0_of 78 = .ok (.aload_n 3, 1) := dk_45 (dk_at dksX0_of_2 10 rfl rfl)
theorem dX0_of_79 : decode cX0_of 79 = .ok (.getfield 218, 3) := dk_180 0 218 (dk_at dksX0_of_2 11 rfl rfl)
theorem dX0_of_82 : decode cX0_of 82 = .ok (.ireturn, 1) := dk_172 (dk_at dksX0_of_2 14 rfl rfl)
theorem dX0_of_83 : decode cX0_of 83 = .ok (.aload_n 3, 1) := dk_45 (dk_at dksX0_of_2 15 rfl rfl)
theorem dX0_of_84 : decode cX0_of 84 = .ok (.getfield 220, 3) := dk_180 0 220 (dk_at dksX0_of_2 16 rfl rfl)
theorem dX0_of_87 : decode cX0_of 87 = .ok (.ireturn, 1) := dk_172 (dk_at dksX0_of_2 19 rfl rfl)
theorem dX0_of_88 : decode cX0_of 88 = .ok (.aload_n 3, 1) := dk_45 (dk_at dksX0_of_2 20 rfl rfl)
theorem dX0_of_89 : decode cX0_of 89 = .ok (.getfield 222, 3) := dk_180 0 222 (dk_at dksX0_of_2 21 rfl rfl)
theorem dX0_of_92 : decode cX0_of 92 = .ok (.l2i, 1) := dk_136 (dk_at dksX0_of_3 0 rfl rfl)
theorem dX0_of_93 : decode cX0_of 93 = .ok (.ireturn, 1) := dk_172 (dk_at dksX0_of_3 1 rfl rfl)
theorem dX0_of_94 : decode cX0_of 94 = .ok (.aload_n 3, 1) := dk_45 (dk_at dksX0_of_3 2 rfl rfl)
theorem dX0_of_95 : decode cX0_of 95 = .ok (.getfield 226, 3) := dk_180 0 226 (dk_at dksX0_of_3 3 rfl rfl)
theorem dX0_of_98 : decode cX0_of 98 = .ok (.ifCond .eq 7, 3) := dk_153 0 7 (dk_at dksX0_of_3 6 rfl rfl)
theorem dX0_of_101 : decode cX0_of 101 = .ok (.iconst 1, 1) := dk_4 (dk_at dksX0_of_3 9 rfl rfl)
theorem dX0_of_102 : decode cX0_of 102 = .ok (.goto 4, 3) := dk_167 0 4 (dk_at dksX0_of_3 10 rfl rfl)
theorem dX0_of_105 : decode cX0_of 105 = .ok (.iconst 0, 1) := dk_3 (dk_at dksX0_of_3 13 rfl rfl)
theorem dX0_of_106 : decode cX0_of 106 = .ok (.ireturn, 1) := dk_172 (dk_at dksX0_of_3 14 rfl rfl)
theorem dX0_of_107 : decode cX0_of 107 = .ok (.aload_n 3, 1) := dk_45 (dk_at dksX0_of_3 15 rfl rfl)
theorem dX0_of_108 : decode cX0_of 108 = .ok (.getfield 230, 3) := dk_180 0 230 (dk_at dksX0_of_3 16 rfl rfl)
theorem dX0_of_111 : decode cX0_of 111 = .ok (.ireturn, 1) := dk_172 (dk_at dksX0_of_3 19 rfl rfl)
theorem dX0_of_112 : decode cX0_of 112 = .ok (.aload_n 3, 1) := dk_45 (dk_at dksX0_of_3 20 rfl rfl)
theorem dX0_of_113 : decode cX0_of 113 = .ok (.getfield 233, 3) := dk_180 0 233 (dk_at dksX0_of_3 21 rfl rfl)
theorem dX0_of_116 : decode cX0_of 116 = .ok (.ifCond .eq 7, 3) := dk_153 0 7 (dk_at dksX0_of_4 0 rfl rfl)
theorem dX0_of_119 : decode cX0_of 119 = .ok (.iconst 1, 1) := dk_4 (dk_at dksX0_of_4 3 rfl rfl)
theorem dX0_of_120 : decode cX0_of 120 = .ok (.goto 4, 3) := dk_167 0 4 (dk_at dksX0_of_4 4 rfl rfl)
theorem dX0_of_123 : decode cX0_of 123 = .ok (.iconst 0, 1) := dk_3 (dk_at dksX0_of_4 7 rfl rfl)
theorem dX0_of_124 : decode cX0_of 124 = .ok (.ireturn, 1) := dk_172 (dk_at dksX0_of_4 8 rfl rfl)
theorem dX0_of_125 : decode cX0_of 125 = .ok (.aload_n 3, 1) := dk_45 (dk_at dksX0_of_4 9 rfl rfl)
theorem dX0_of_126 : decode cX0_of 126 = .ok (.getfield 236, 3) := dk_180 0 236 (dk_at dksX0_of_4 10 rfl rfl)
theorem dX0_of_129 : decode cX0_of 129 = .ok (.ireturn, 1) := dk_172 (dk_at dksX0_of_4 13 rfl rfl)
theorem dX0_of_130 : decode cX0_of 130 = .ok (.iconst (-1), 1) := dk_2 (dk_at dksX0_of_4 14 rfl rfl)
theorem dX0_of_131 : decode cX0_of 131 = .ok (.ireturn, 1) := dk_172 (dk_at dksX0_of_4 15 rfl rfl)
abbrev cX0_isLedge : ByteArray := prog_1_method_7_code
def yX0_isLedge : MethodName := ⟨RX0, "isLedge", "(I)Z"⟩
def dkwX0_isLedge_0 : List UInt8 := [27, 155, 0, 15, 27, 42, 180, 0, 196, 162, 0, 7, 4, 167, 0, 4, 3, 172]
abbrev dktX0_isLedge_0 : List UInt8 := dkwX0_isLedge_0 ++ []
theorem dksX0_isLedge_0 : cX0_isLedge.data.toList.drop 0 = dktX0_isLedge_0 := by decide +kernel
theorem dX0_isLedge_0 : decode cX0_isLedge 0 = .ok (.iload_n 1, 1) := dk_27 (dk_at dksX0_isLedge_0 0 rfl rfl)
theorem dX0_isLedge_1 : decode cX0_isLedge 1 = .ok (.ifCond .lt 15, 3) := dk_155 0 15 (dk_at dksX0_isLedge_0 1 rfl rfl)
theorem dX0_isLedge_4 : decode cX0_isLedge 4 = .ok (.iload_n 1, 1) := dk_27 (dk_at dksX0_isLedge_0 4 rfl rfl)
theorem dX0_isLedge_5 : decode cX0_isLedge 5 = .ok (.aload_n 0, 1) := dk_42 (dk_at dksX0_isLedge_0 5 rfl rfl)
theorem dX0_isLedge_6 : decode cX0_isLedge 6 = .ok (.getfield 196, 3) := dk_180 0 196 (dk_at dksX0_isLedge_0 6 rfl rfl)
theorem dX0_isLedge_9 : decode cX0_isLedge 9 = .ok (.if_icmp .ge 7, 3) := dk_162 0 7 (dk_at dksX0_isLedge_0 9 rfl rfl)
theorem dX0_isLedge_12 : decode cX0_isLedge 12 = .ok (.iconst 1, 1) := dk_4 (dk_at dksX0_isLedge_0 12 rfl rfl)
theorem dX0_isLedge_13 : decode cX0_isLedge 13 = .ok (.goto 4, 3) := dk_167 0 4 (dk_at dksX0_isLedge_0 13 rfl rfl)
theorem dX0_isLedge_16 : decode cX0_isLedge 16 = .ok (.iconst 0, 1) := dk_3 (dk_at dksX0_isLedge_0 16 rfl rfl)
theorem dX0_isLedge_17 : decode cX0_isLedge 17 = .ok (.ireturn, 1) := dk_172 (dk_at dksX0_isLedge_0 17 rfl rfl)
abbrev cX0_spray : ByteArray := prog_1_method_11_code
def yX0_spray : MethodName := ⟨RX0, "spray", "(I)Z"⟩
def dkwX0_spray_1 : List UInt8 := [180, 0, 11, 27, 50, 4, 181, 0, 233, 4, 172]
abbrev dktX0_spray_1 : List UInt8 := dkwX0_spray_1 ++ []
def dkwX0_spray_0 : List UInt8 := [42, 27, 182, 0, 214, 153, 0, 15, 42, 180, 0, 11, 27, 50, 180, 0, 233, 153, 0, 5, 3, 172, 42]
abbrev dktX0_spray_0 : List UInt8 := dkwX0_spray_0 ++ dktX0_spray_1
theorem dksX0_spray_0 : cX0_spray.data.toList.drop 0 = dktX0_spray_0 := by decide +kernel
theorem dksX0_spray_1 : cX0_spray.data.toList.drop 23 = dktX0_spray_1 := dk_seg dksX0_spray_0 23 rfl rfl
theorem dX0_spray_0 : decode cX0_spray 0 = .ok (.aload_n 0, 1) := dk_42 (dk_at dksX0_spray_0 0 rfl rfl)
theorem dX0_spray_1 : decode cX0_spray 1 = .ok (.iload_n 1, 1) := dk_27 (dk_at dksX0_spray_0 1 rfl rfl)
theorem dX0_spray_2 : decode cX0_spray 2 = .ok (.invokevirtual 214, 3) := dk_182 0 214 (dk_at dksX0_spray_0 2 rfl rfl)
theorem dX0_spray_5 : decode cX0_spray 5 = .ok (.ifCond .eq 15, 3) := dk_153 0 15 (dk_at dksX0_spray_0 5 rfl rfl)
theorem dX0_spray_8 : decode cX0_spray 8 = .ok (.aload_n 0, 1) := dk_42 (dk_at dksX0_spray_0 8 rfl rfl)
theorem dX0_spray_9 : decode cX0_spray 9 = .ok (.getfield 11, 3) := dk_180 0 11 (dk_at dksX0_spray_0 9 rfl rfl)
theorem dX0_spray_12 : decode cX0_spray 12 = .ok (.iload_n 1, 1) := dk_27 (dk_at dksX0_spray_0 12 rfl rfl)
theorem dX0_spray_13 : decode cX0_spray 13 = .ok (.aaload, 1) := dk_50 (dk_at dksX0_spray_0 13 rfl rfl)
theorem dX0_spray_14 : decode cX0_spray 14 = .ok (.getfield 233, 3) := dk_180 0 233 (dk_at dksX0_spray_0 14 rfl rfl)
theorem dX0_spray_17 : decode cX0_spray 17 = .ok (.ifCond .eq 5, 3) := dk_153 0 5 (dk_at dksX0_spray_0 17 rfl rfl)
theorem dX0_spray_20 : decode cX0_spray 20 = .ok (.iconst 0, 1) := dk_3 (dk_at dksX0_spray_0 20 rfl rfl)
theorem dX0_spray_21 : decode cX0_spray 21 = .ok (.ireturn, 1) := dk_172 (dk_at dksX0_spray_0 21 rfl rfl)
theorem dX0_spray_22 : decode cX0_spray 22 = .ok (.aload_n 0, 1) := dk_42 (dk_at dksX0_spray_0 22 rfl rfl)
theorem dX0_spray_23 : decode cX0_spray 23 = .ok (.getfield 11, 3) := dk_180 0 11 (dk_at dksX0_spray_1 0 rfl rfl)
theorem dX0_spray_26 : decode cX0_spray 26 = .ok (.iload_n 1, 1) := dk_27 (dk_at dksX0_spray_1 3 rfl rfl)
theorem dX0_spray_27 : decode cX0_spray 27 = .ok (.aaload, 1) := dk_50 (dk_at dksX0_spray_1 4 rfl rfl)
theorem dX0_spray_28 : decode cX0_spray 28 = .ok (.iconst 1, 1) := dk_4 (dk_at dksX0_spray_1 5 rfl rfl)
theorem dX0_spray_29 : decode cX0_spray 29 = .ok (.putfield 233, 3) := dk_181 0 233 (dk_at dksX0_spray_1 6 rfl rfl)
theorem dX0_spray_32 : decode cX0_spray 32 = .ok (.iconst 1, 1) := dk_4 (dk_at dksX0_spray_1 9 rfl rfl)
theorem dX0_spray_33 : decode cX0_spray 33 = .ok (.ireturn, 1) := dk_172 (dk_at dksX0_spray_1 10 rfl rfl)
abbrev cX0_days : ByteArray := prog_1_method_15_code
def yX0_days : MethodName := ⟨RX0, "days", "(I)I"⟩
def dkwX0_days_3 : List UInt8 := [132, 2, 1, 167, 255, 208, 42, 180, 0, 193, 172]
abbrev dktX0_days_3 : List UInt8 := dkwX0_days_3 ++ []
def dkwX0_days_2 : List UInt8 := [4, 96, 181, 0, 193, 42, 180, 0, 193, 16, 60, 112, 154, 0, 11, 42, 42, 180, 0, 11, 182, 1, 4]
abbrev dktX0_days_2 : List UInt8 := dkwX0_days_2 ++ dktX0_days_3
def dkwX0_days_1 : List UInt8 := [3, 61, 28, 27, 162, 0, 49, 42, 42, 180, 0, 11, 42, 180, 0, 193, 182, 1, 0, 42, 89, 180, 0, 193]
abbrev dktX0_days_1 : List UInt8 := dkwX0_days_1 ++ dktX0_days_2
def dkwX0_days_0 : List UInt8 := [27, 4, 16, 60, 184, 0, 199, 153, 0, 15, 42, 180, 0, 193, 27, 96, 17, 9, 96, 161, 0, 5, 2, 172]
abbrev dktX0_days_0 : List UInt8 := dkwX0_days_0 ++ dktX0_days_1
theorem dksX0_days_0 : cX0_days.data.toList.drop 0 = dktX0_days_0 := by decide +kernel
theorem dksX0_days_1 : cX0_days.data.toList.drop 24 = dktX0_days_1 := dk_seg dksX0_days_0 24 rfl rfl
theorem dksX0_days_2 : cX0_days.data.toList.drop 48 = dktX0_days_2 := dk_seg dksX0_days_1 24 rfl rfl
theorem dksX0_days_3 : cX0_days.data.toList.drop 71 = dktX0_days_3 := dk_seg dksX0_days_2 23 rfl rfl
theorem dX0_days_0 : decode cX0_days 0 = .ok (.iload_n 1, 1) := dk_27 (dk_at dksX0_days_0 0 rfl rfl)
theorem dX0_days_1 : decode cX0_days 1 = .ok (.iconst 1, 1) := dk_4 (dk_at dksX0_days_0 1 rfl rfl)
theorem dX0_days_2 : decode cX0_days 2 = .ok (.bipush 60, 2) := dk_16 60 (dk_at dksX0_days_0 2 rfl rfl)
theorem dX0_days_4 : decode cX0_days 4 = .ok (.invokestatic 199, 3) := dk_184 0 199 (dk_at dksX0_days_0 4 rfl rfl)
theorem dX0_days_7 : decode cX0_days 7 = .ok (.ifCond .eq 15, 3) := dk_153 0 15 (dk_at dksX0_days_0 7 rfl rfl)
theorem dX0_days_10 : decode cX0_days 10 = .ok (.aload_n 0, 1) := dk_42 (dk_at dksX0_days_0 10 rfl rfl)
theorem dX0_days_11 : decode cX0_days 11 = .ok (.getfield 193, 3) := dk_180 0 193 (dk_at dksX0_days_0 11 rfl rfl)
theorem dX0_days_14 : decode cX0_days 14 = .ok (.iload_n 1, 1) := dk_27 (dk_at dksX0_days_0 14 rfl rfl)
theorem dX0_days_15 : decode cX0_days 15 = .ok (.iadd, 1) := dk_96 (dk_at dksX0_days_0 15 rfl rfl)
theorem dX0_days_16 : decode cX0_days 16 = .ok (.sipush 2400, 3) := dk_17 9 96 (dk_at dksX0_days_0 16 rfl rfl)
theorem dX0_days_19 : decode cX0_days 19 = .ok (.if_icmp .lt 5, 3) := dk_161 0 5 (dk_at dksX0_days_0 19 rfl rfl)
theorem dX0_days_22 : decode cX0_days 22 = .ok (.iconst (-1), 1) := dk_2 (dk_at dksX0_days_0 22 rfl rfl)
theorem dX0_days_23 : decode cX0_days 23 = .ok (.ireturn, 1) := dk_172 (dk_at dksX0_days_0 23 rfl rfl)
theorem dX0_days_24 : decode cX0_days 24 = .ok (.iconst 0, 1) := dk_3 (dk_at dksX0_days_1 0 rfl rfl)
theorem dX0_days_25 : decode cX0_days 25 = .ok (.istore_n 2, 1) := dk_61 (dk_at dksX0_days_1 1 rfl rfl)
theorem dX0_days_26 : decode cX0_days 26 = .ok (.iload_n 2, 1) := dk_28 (dk_at dksX0_days_1 2 rfl rfl)
theorem dX0_days_27 : decode cX0_days 27 = .ok (.iload_n 1, 1) := dk_27 (dk_at dksX0_days_1 3 rfl rfl)
theorem dX0_days_28 : decode cX0_days 28 = .ok (.if_icmp .ge 49, 3) := dk_162 0 49 (dk_at dksX0_days_1 4 rfl rfl)
theorem dX0_days_31 : decode cX0_days 31 = .ok (.aload_n 0, 1) := dk_42 (dk_at dksX0_days_1 7 rfl rfl)
theorem dX0_days_32 : decode cX0_days 32 = .ok (.aload_n 0, 1) := dk_42 (dk_at dksX0_days_1 8 rfl rfl)
theorem dX0_days_33 : decode cX0_days 33 = .ok (.getfield 11, 3) := dk_180 0 11 (dk_at dksX0_days_1 9 rfl rfl)
theorem dX0_days_36 : decode cX0_days 36 = .ok (.aload_n 0, 1) := dk_42 (dk_at dksX0_days_1 12 rfl rfl)
theorem dX0_days_37 : decode cX0_days 37 = .ok (.getfield 193, 3) := dk_180 0 193 (dk_at dksX0_days_1 13 rfl rfl)
theorem dX0_days_40 : decode cX0_days 40 = .ok (.invokevirtual 256, 3) := dk_182 1 0 (dk_at dksX0_days_1 16 rfl rfl)
theorem dX0_days_43 : decode cX0_days 43 = .ok (.aload_n 0, 1) := dk_42 (dk_at dksX0_days_1 19 rfl rfl)
theorem dX0_days_44 : decode cX0_days 44 = .ok (.dup, 1) := dk_89 (dk_at dksX0_days_1 20 rfl rfl)
theorem dX0_days_45 : decode cX0_days 45 = .ok (.getfield 193, 3) := dk_180 0 193 (dk_at dksX0_days_1 21 rfl rfl)
theorem dX0_days_48 : decode cX0_days 48 = .ok (.iconst 1, 1) := dk_4 (dk_at dksX0_days_2 0 rfl rfl)
theorem dX0_days_49 : decode cX0_days 49 = .ok (.iadd, 1) := dk_96 (dk_at dksX0_days_2 1 rfl rfl)
theorem dX0_days_50 : decode cX0_days 50 = .ok (.putfield 193, 3) := dk_181 0 193 (dk_at dksX0_days_2 2 rfl rfl)
theorem dX0_days_53 : decode cX0_days 53 = .ok (.aload_n 0, 1) := dk_42 (dk_at dksX0_days_2 5 rfl rfl)
theorem dX0_days_54 : decode cX0_days 54 = .ok (.getfield 193, 3) := dk_180 0 193 (dk_at dksX0_days_2 6 rfl rfl)
theorem dX0_days_57 : decode cX0_days 57 = .ok (.bipush 60, 2) := dk_16 60 (dk_at dksX0_days_2 9 rfl rfl)
theorem dX0_days_59 : decode cX0_days 59 = .ok (.irem, 1) := dk_112 (dk_at dksX0_days_2 11 rfl rfl)
theorem dX0_days_60 : decode cX0_days 60 = .ok (.ifCond .ne 11, 3) := dk_154 0 11 (dk_at dksX0_days_2 12 rfl rfl)
theorem dX0_days_63 : decode cX0_days 63 = .ok (.aload_n 0, 1) := dk_42 (dk_at dksX0_days_2 15 rfl rfl)
theorem dX0_days_64 : decode cX0_days 64 = .ok (.aload_n 0, 1) := dk_42 (dk_at dksX0_days_2 16 rfl rfl)
theorem dX0_days_65 : decode cX0_days 65 = .ok (.getfield 11, 3) := dk_180 0 11 (dk_at dksX0_days_2 17 rfl rfl)
theorem dX0_days_68 : decode cX0_days 68 = .ok (.invokevirtual 260, 3) := dk_182 1 4 (dk_at dksX0_days_2 20 rfl rfl)
theorem dX0_days_71 : decode cX0_days 71 = .ok (.iinc 2 1, 3) := dk_132 2 1 (dk_at dksX0_days_3 0 rfl rfl)
theorem dX0_days_74 : decode cX0_days 74 = .ok (.goto (-48), 3) := dk_167 255 208 (dk_at dksX0_days_3 3 rfl rfl)
theorem dX0_days_77 : decode cX0_days 77 = .ok (.aload_n 0, 1) := dk_42 (dk_at dksX0_days_3 6 rfl rfl)
theorem dX0_days_78 : decode cX0_days 78 = .ok (.getfield 193, 3) := dk_180 0 193 (dk_at dksX0_days_3 7 rfl rfl)
theorem dX0_days_81 : decode cX0_days 81 = .ok (.ireturn, 1) := dk_172 (dk_at dksX0_days_3 10 rfl rfl)
abbrev cX0_grow : ByteArray := prog_1_method_12_code
def yX0_grow : MethodName := ⟨RX0, "grow", "([LCliffHoney$Ledge;I)V"⟩
def dkwX0_grow_2 : List UInt8 := [132, 3, 1, 167, 255, 209, 177]
abbrev dktX0_grow_2 : List UInt8 := dkwX0_grow_2 ++ []
def dkwX0_grow_1 : List UInt8 := [184, 0, 238, 46, 42, 180, 0, 22, 28, 43, 29, 50, 180, 0, 209, 184, 0, 238, 46, 182, 0, 241]
abbrev dktX0_grow_1 : List UInt8 := dkwX0_grow_1 ++ dktX0_grow_2
def dkwX0_grow_0 : List UInt8 := [3, 62, 29, 42, 180, 0, 196, 162, 0, 45, 43, 29, 50, 42, 180, 0, 18, 28, 43, 29, 50, 180, 0, 209]
abbrev dktX0_grow_0 : List UInt8 := dkwX0_grow_0 ++ dktX0_grow_1
theorem dksX0_grow_0 : cX0_grow.data.toList.drop 0 = dktX0_grow_0 := by decide +kernel
theorem dksX0_grow_1 : cX0_grow.data.toList.drop 24 = dktX0_grow_1 := dk_seg dksX0_grow_0 24 rfl rfl
theorem dksX0_grow_2 : cX0_grow.data.toList.drop 46 = dktX0_grow_2 := dk_seg dksX0_grow_1 22 rfl rfl
theorem dX0_grow_0 : decode cX0_grow 0 = .ok (.iconst 0, 1) := dk_3 (dk_at dksX0_grow_0 0 rfl rfl)
theorem dX0_grow_1 : decode cX0_grow 1 = .ok (.istore_n 3, 1) := dk_62 (dk_at dksX0_grow_0 1 rfl rfl)
theorem dX0_grow_2 : decode cX0_grow 2 = .ok (.iload_n 3, 1) := dk_29 (dk_at dksX0_grow_0 2 rfl rfl)
theorem dX0_grow_3 : decode cX0_grow 3 = .ok (.aload_n 0, 1) := dk_42 (dk_at dksX0_grow_0 3 rfl rfl)
theorem dX0_grow_4 : decode cX0_grow 4 = .ok (.getfield 196, 3) := dk_180 0 196 (dk_at dksX0_grow_0 4 rfl rfl)
theorem dX0_grow_7 : decode cX0_grow 7 = .ok (.if_icmp .ge 45, 3) := dk_162 0 45 (dk_at dksX0_grow_0 7 rfl rfl)
theorem dX0_grow_10 : decode cX0_grow 10 = .ok (.aload_n 1, 1) := dk_43 (dk_at dksX0_grow_0 10 rfl rfl)
theorem dX0_grow_11 : decode cX0_grow 11 = .ok (.iload_n 3, 1) := dk_29 (dk_at dksX0_grow_0 11 rfl rfl)
theorem dX0_grow_12 : decode cX0_grow 12 = .ok (.aaload, 1) := dk_50 (dk_at dksX0_grow_0 12 rfl rfl)
theorem dX0_grow_13 : decode cX0_grow 13 = .ok (.aload_n 0, 1) := dk_42 (dk_at dksX0_grow_0 13 rfl rfl)
theorem dX0_grow_14 : decode cX0_grow 14 = .ok (.getfield 18, 3) := dk_180 0 18 (dk_at dksX0_grow_0 14 rfl rfl)
theorem dX0_grow_17 : decode cX0_grow 17 = .ok (.iload_n 2, 1) := dk_28 (dk_at dksX0_grow_0 17 rfl rfl)
theorem dX0_grow_18 : decode cX0_grow 18 = .ok (.aload_n 1, 1) := dk_43 (dk_at dksX0_grow_0 18 rfl rfl)
theorem dX0_grow_19 : decode cX0_grow 19 = .ok (.iload_n 3, 1) := dk_29 (dk_at dksX0_grow_0 19 rfl rfl)
theorem dX0_grow_20 : decode cX0_grow 20 = .ok (.aaload, 1) := dk_50 (dk_at dksX0_grow_0 20 rfl rfl)
theorem dX0_grow_21 : decode cX0_grow 21 = .ok (.getfield 209, 3) := dk_180 0 209 (dk_at dksX0_grow_0 21 rfl rfl)
theorem dX0_grow_24 : decode cX0_grow 24 = .ok (.invokestatic 238, 3) := dk_184 0 238 (dk_at dksX0_grow_1 0 rfl rfl)
theorem dX0_grow_27 : decode cX0_grow 27 = .ok (.iaload, 1) := dk_46 (dk_at dksX0_grow_1 3 rfl rfl)
theorem dX0_grow_28 : decode cX0_grow 28 = .ok (.aload_n 0, 1) := dk_42 (dk_at dksX0_grow_1 4 rfl rfl)
theorem dX0_grow_29 : decode cX0_grow 29 = .ok (.getfield 22, 3) := dk_180 0 22 (dk_at dksX0_grow_1 5 rfl rfl)
theorem dX0_grow_32 : decode cX0_grow 32 = .ok (.iload_n 2, 1) := dk_28 (dk_at dksX0_grow_1 8 rfl rfl)
theorem dX0_grow_33 : decode cX0_grow 33 = .ok (.aload_n 1, 1) := dk_43 (dk_at dksX0_grow_1 9 rfl rfl)
theorem dX0_grow_34 : decode cX0_grow 34 = .ok (.iload_n 3, 1) := dk_29 (dk_at dksX0_grow_1 10 rfl rfl)
theorem dX0_grow_35 : decode cX0_grow 35 = .ok (.aaload, 1) := dk_50 (dk_at dksX0_grow_1 11 rfl rfl)
theorem dX0_grow_36 : decode cX0_grow 36 = .ok (.getfield 209, 3) := dk_180 0 209 (dk_at dksX0_grow_1 12 rfl rfl)
theorem dX0_grow_39 : decode cX0_grow 39 = .ok (.invokestatic 238, 3) := dk_184 0 238 (dk_at dksX0_grow_1 15 rfl rfl)
theorem dX0_grow_42 : decode cX0_grow 42 = .ok (.iaload, 1) := dk_46 (dk_at dksX0_grow_1 18 rfl rfl)
theorem dX0_grow_43 : decode cX0_grow 43 = .ok (.invokevirtual 241, 3) := dk_182 0 241 (dk_at dksX0_grow_1 19 rfl rfl)
theorem dX0_grow_46 : decode cX0_grow 46 = .ok (.iinc 3 1, 3) := dk_132 3 1 (dk_at dksX0_grow_2 0 rfl rfl)
theorem dX0_grow_49 : decode cX0_grow 49 = .ok (.goto (-47), 3) := dk_167 255 209 (dk_at dksX0_grow_2 3 rfl rfl)
theorem dX0_grow_52 : decode cX0_grow 52 = .ok (.return_, 1) := dk_177 (dk_at dksX0_grow_2 6 rfl rfl)
abbrev cX0_bloom : ByteArray := prog_1_method_5_code
def yX0_bloom : MethodName := ⟨RX0, "bloom", "(II)I"⟩
def dkwX0_bloom_1 : List UInt8 := [184, 0, 190, 172]
abbrev dktX0_bloom_1 : List UInt8 := dkwX0_bloom_1 ++ []
def dkwX0_bloom_0 : List UInt8 := [27, 16, 50, 161, 0, 18, 26, 184, 0, 190, 16, 6, 96, 4, 100, 16, 6, 112, 167, 0, 7, 26]
abbrev dktX0_bloom_0 : List UInt8 := dkwX0_bloom_0 ++ dktX0_bloom_1
theorem dksX0_bloom_0 : cX0_bloom.data.toList.drop 0 = dktX0_bloom_0 := by decide +kernel
theorem dksX0_bloom_1 : cX0_bloom.data.toList.drop 22 = dktX0_bloom_1 := dk_seg dksX0_bloom_0 22 rfl rfl
theorem dX0_bloom_0 : decode cX0_bloom 0 = .ok (.iload_n 1, 1) := dk_27 (dk_at dksX0_bloom_0 0 rfl rfl)
theorem dX0_bloom_1 : decode cX0_bloom 1 = .ok (.bipush 50, 2) := dk_16 50 (dk_at dksX0_bloom_0 1 rfl rfl)
theorem dX0_bloom_3 : decode cX0_bloom 3 = .ok (.if_icmp .lt 18, 3) := dk_161 0 18 (dk_at dksX0_bloom_0 3 rfl rfl)
theorem dX0_bloom_6 : decode cX0_bloom 6 = .ok (.iload_n 0, 1) := dk_26 (dk_at dksX0_bloom_0 6 rfl rfl)
theorem dX0_bloom_7 : decode cX0_bloom 7 = .ok (.invokestatic 190, 3) := dk_184 0 190 (dk_at dksX0_bloom_0 7 rfl rfl)
theorem dX0_bloom_10 : decode cX0_bloom 10 = .ok (.bipush 6, 2) := dk_16 6 (dk_at dksX0_bloom_0 10 rfl rfl)
theorem dX0_bloom_12 : decode cX0_bloom 12 = .ok (.iadd, 1) := dk_96 (dk_at dksX0_bloom_0 12 rfl rfl)
theorem dX0_bloom_13 : decode cX0_bloom 13 = .ok (.iconst 1, 1) := dk_4 (dk_at dksX0_bloom_0 13 rfl rfl)
theorem dX0_bloom_14 : decode cX0_bloom 14 = .ok (.isub, 1) := dk_100 (dk_at dksX0_bloom_0 14 rfl rfl)
theorem dX0_bloom_15 : decode cX0_bloom 15 = .ok (.bipush 6, 2) := dk_16 6 (dk_at dksX0_bloom_0 15 rfl rfl)
theorem dX0_bloom_17 : decode cX0_bloom 17 = .ok (.irem, 1) := dk_112 (dk_at dksX0_bloom_0 17 rfl rfl)
theorem dX0_bloom_18 : decode cX0_bloom 18 = .ok (.goto 7, 3) := dk_167 0 7 (dk_at dksX0_bloom_0 18 rfl rfl)
theorem dX0_bloom_21 : decode cX0_bloom 21 = .ok (.iload_n 0, 1) := dk_26 (dk_at dksX0_bloom_0 21 rfl rfl)
theorem dX0_bloom_22 : decode cX0_bloom 22 = .ok (.invokestatic 190, 3) := dk_184 0 190 (dk_at dksX0_bloom_1 0 rfl rfl)
theorem dX0_bloom_25 : decode cX0_bloom 25 = .ok (.ireturn, 1) := dk_172 (dk_at dksX0_bloom_1 3 rfl rfl)
abbrev cX0_month : ByteArray := prog_1_method_4_code
def yX0_month : MethodName := ⟨RX0, "month", "(I)I"⟩
def dkwX0_month_0 : List UInt8 := [6, 26, 16, 60, 108, 5, 112, 104, 26, 16, 60, 112, 16, 20, 108, 96, 172]
abbrev dktX0_month_0 : List UInt8 := dkwX0_month_0 ++ []
theorem dksX0_month_0 : cX0_month.data.toList.drop 0 = dktX0_month_0 := by decide +kernel
theorem dX0_month_0 : decode cX0_month 0 = .ok (.iconst 3, 1) := dk_6 (dk_at dksX0_month_0 0 rfl rfl)
theorem dX0_month_1 : decode cX0_month 1 = .ok (.iload_n 0, 1) := dk_26 (dk_at dksX0_month_0 1 rfl rfl)
theorem dX0_month_2 : decode cX0_month 2 = .ok (.bipush 60, 2) := dk_16 60 (dk_at dksX0_month_0 2 rfl rfl)
theorem dX0_month_4 : decode cX0_month 4 = .ok (.idiv, 1) := dk_108 (dk_at dksX0_month_0 4 rfl rfl)
theorem dX0_month_5 : decode cX0_month 5 = .ok (.iconst 2, 1) := dk_5 (dk_at dksX0_month_0 5 rfl rfl)
theorem dX0_month_6 : decode cX0_month 6 = .ok (.irem, 1) := dk_112 (dk_at dksX0_month_0 6 rfl rfl)
theorem dX0_month_7 : decode cX0_month 7 = .ok (.imul, 1) := dk_104 (dk_at dksX0_month_0 7 rfl rfl)
theorem dX0_month_8 : decode cX0_month 8 = .ok (.iload_n 0, 1) := dk_26 (dk_at dksX0_month_0 8 rfl rfl)
theorem dX0_month_9 : decode cX0_month 9 = .ok (.bipush 60, 2) := dk_16 60 (dk_at dksX0_month_0 9 rfl rfl)
theorem dX0_month_11 : decode cX0_month 11 = .ok (.irem, 1) := dk_112 (dk_at dksX0_month_0 11 rfl rfl)
theorem dX0_month_12 : decode cX0_month 12 = .ok (.bipush 20, 2) := dk_16 20 (dk_at dksX0_month_0 12 rfl rfl)
theorem dX0_month_14 : decode cX0_month 14 = .ok (.idiv, 1) := dk_108 (dk_at dksX0_month_0 14 rfl rfl)
theorem dX0_month_15 : decode cX0_month 15 = .ok (.iadd, 1) := dk_96 (dk_at dksX0_month_0 15 rfl rfl)
theorem dX0_month_16 : decode cX0_month 16 = .ok (.ireturn, 1) := dk_172 (dk_at dksX0_month_0 16 rfl rfl)
abbrev cX0_seasonEnds : ByteArray := prog_1_method_14_code
def yX0_seasonEnds : MethodName := ⟨RX0, "seasonEnds", "([LCliffHoney$Ledge;)V"⟩
def dkwX0_seasonEnds_3 : List UInt8 := [181, 0, 218, 43, 28, 50, 5, 181, 0, 218, 132, 2, 1, 167, 255, 198, 177]
abbrev dktX0_seasonEnds_3 : List UInt8 := dkwX0_seasonEnds_3 ++ []
def dkwX0_seasonEnds_2 : List UInt8 := [167, 0, 4, 2, 62, 29, 2, 160, 0, 6, 167, 0, 22, 43, 29, 50, 89, 180, 0, 218, 5, 100]
abbrev dktX0_seasonEnds_2 : List UInt8 := dkwX0_seasonEnds_2 ++ dktX0_seasonEnds_3
def dkwX0_seasonEnds_1 : List UInt8 := [28, 42, 180, 0, 196, 162, 0, 56, 43, 28, 50, 180, 0, 218, 154, 0, 12, 42, 43, 28, 182, 0, 252]
abbrev dktX0_seasonEnds_1 : List UInt8 := dkwX0_seasonEnds_1 ++ dktX0_seasonEnds_2
def dkwX0_seasonEnds_0 : List UInt8 := [3, 61, 28, 42, 180, 0, 196, 162, 0, 15, 43, 28, 50, 182, 0, 249, 132, 2, 1, 167, 255, 239, 3, 61]
abbrev dktX0_seasonEnds_0 : List UInt8 := dkwX0_seasonEnds_0 ++ dktX0_seasonEnds_1
theorem dksX0_seasonEnds_0 : cX0_seasonEnds.data.toList.drop 0 = dktX0_seasonEnds_0 := by decide +kernel
theorem dksX0_seasonEnds_1 : cX0_seasonEnds.data.toList.drop 24 = dktX0_seasonEnds_1 := dk_seg dksX0_seasonEnds_0 24 rfl rfl
theorem dksX0_seasonEnds_2 : cX0_seasonEnds.data.toList.drop 47 = dktX0_seasonEnds_2 := dk_seg dksX0_seasonEnds_1 23 rfl rfl
theorem dksX0_seasonEnds_3 : cX0_seasonEnds.data.toList.drop 69 = dktX0_seasonEnds_3 := dk_seg dksX0_seasonEnds_2 22 rfl rfl
theorem dX0_seasonEnds_0 : decode cX0_seasonEnds 0 = .ok (.iconst 0, 1) := dk_3 (dk_at dksX0_seasonEnds_0 0 rfl rfl)
theorem dX0_seasonEnds_1 : decode cX0_seasonEnds 1 = .ok (.istore_n 2, 1) := dk_61 (dk_at dksX0_seasonEnds_0 1 rfl rfl)
theorem dX0_seasonEnds_2 : decode cX0_seasonEnds 2 = .ok (.iload_n 2, 1) := dk_28 (dk_at dksX0_seasonEnds_0 2 rfl rfl)
theorem dX0_seasonEnds_3 : decode cX0_seasonEnds 3 = .ok (.aload_n 0, 1) := dk_42 (dk_at dksX0_seasonEnds_0 3 rfl rfl)
theorem dX0_seasonEnds_4 : decode cX0_seasonEnds 4 = .ok (.getfield 196, 3) := dk_180 0 196 (dk_at dksX0_seasonEnds_0 4 rfl rfl)
theorem dX0_seasonEnds_7 : decode cX0_seasonEnds 7 = .ok (.if_icmp .ge 15, 3) := dk_162 0 15 (dk_at dksX0_seasonEnds_0 7 rfl rfl)
theorem dX0_seasonEnds_10 : decode cX0_seasonEnds 10 = .ok (.aload_n 1, 1) := dk_43 (dk_at dksX0_seasonEnds_0 10 rfl rfl)
theorem dX0_seasonEnds_11 : decode cX0_seasonEnds 11 = .ok (.iload_n 2, 1) := dk_28 (dk_at dksX0_seasonEnds_0 11 rfl rfl)
theorem dX0_seasonEnds_12 : decode cX0_seasonEnds 12 = .ok (.aaload, 1) := dk_50 (dk_at dksX0_seasonEnds_0 12 rfl rfl)
theorem dX0_seasonEnds_13 : decode cX0_seasonEnds 13 = .ok (.invokevirtual 249, 3) := dk_182 0 249 (dk_at dksX0_seasonEnds_0 13 rfl rfl)
theorem dX0_seasonEnds_16 : decode cX0_seasonEnds 16 = .ok (.iinc 2 1, 3) := dk_132 2 1 (dk_at dksX0_seasonEnds_0 16 rfl rfl)
theorem dX0_seasonEnds_19 : decode cX0_seasonEnds 19 = .ok (.goto (-17), 3) := dk_167 255 239 (dk_at dksX0_seasonEnds_0 19 rfl rfl)
theorem dX0_seasonEnds_22 : decode cX0_seasonEnds 22 = .ok (.iconst 0, 1) := dk_3 (dk_at dksX0_seasonEnds_0 22 rfl rfl)
theorem dX0_seasonEnds_23 : decode cX0_seasonEnds 23 = .ok (.istore_n 2, 1) := dk_61 (dk_at dksX0_seasonEnds_0 23 rfl rfl)
theorem dX0_seasonEnds_24 : decode cX0_seasonEnds 24 = .ok (.iload_n 2, 1) := dk_28 (dk_at dksX0_seasonEnds_1 0 rfl rfl)
theorem dX0_seasonEnds_25 : decode cX0_seasonEnds 25 = .ok (.aload_n 0, 1) := dk_42 (dk_at dksX0_seasonEnds_1 1 rfl rfl)
theorem dX0_seasonEnds_26 : decode cX0_seasonEnds 26 = .ok (.getfield 196, 3) := dk_180 0 196 (dk_at dksX0_seasonEnds_1 2 rfl rfl)
theorem dX0_seasonEnds_29 : decode cX0_seasonEnds 29 = .ok (.if_icmp .ge 56, 3) := dk_162 0 56 (dk_at dksX0_seasonEnds_1 5 rfl rfl)
theorem dX0_seasonEnds_32 : decode cX0_seasonEnds 32 = .ok (.aload_n 1, 1) := dk_43 (dk_at dksX0_seasonEnds_1 8 rfl rfl)
theorem dX0_seasonEnds_33 : decode cX0_seasonEnds 33 = .ok (.iload_n 2, 1) := dk_28 (dk_at dksX0_seasonEnds_1 9 rfl rfl)
theorem dX0_seasonEnds_34 : decode cX0_seasonEnds 34 = .ok (.aaload, 1) := dk_50 (dk_at dksX0_seasonEnds_1 10 rfl rfl)
theorem dX0_seasonEnds_35 : decode cX0_seasonEnds 35 = .ok (.getfield 218, 3) := dk_180 0 218 (dk_at dksX0_seasonEnds_1 11 rfl rfl)
theorem dX0_seasonEnds_38 : decode cX0_seasonEnds 38 = .ok (.ifCond .ne 12, 3) := dk_154 0 12 (dk_at dksX0_seasonEnds_1 14 rfl rfl)
theorem dX0_seasonEnds_41 : decode cX0_seasonEnds 41 = .ok (.aload_n 0, 1) := dk_42 (dk_at dksX0_seasonEnds_1 17 rfl rfl)
theorem dX0_seasonEnds_42 : decode cX0_seasonEnds 42 = .ok (.aload_n 1, 1) := dk_43 (dk_at dksX0_seasonEnds_1 18 rfl rfl)
theorem dX0_seasonEnds_43 : decode cX0_seasonEnds 43 = .ok (.iload_n 2, 1) := dk_28 (dk_at dksX0_seasonEnds_1 19 rfl rfl)
theorem dX0_seasonEnds_44 : decode cX0_seasonEnds 44 = .ok (.invokevirtual 252, 3) := dk_182 0 252 (dk_at dksX0_seasonEnds_1 20 rfl rfl)
theorem dX0_seasonEnds_47 : decode cX0_seasonEnds 47 = .ok (.goto 4, 3) := dk_167 0 4 (dk_at dksX0_seasonEnds_2 0 rfl rfl)
theorem dX0_seasonEnds_50 : decode cX0_seasonEnds 50 = .ok (.iconst (-1), 1) := dk_2 (dk_at dksX0_seasonEnds_2 3 rfl rfl)
theorem dX0_seasonEnds_51 : decode cX0_seasonEnds 51 = .ok (.istore_n 3, 1) := dk_62 (dk_at dksX0_seasonEnds_2 4 rfl rfl)
theorem dX0_seasonEnds_52 : decode cX0_seasonEnds 52 = .ok (.iload_n 3, 1) := dk_29 (dk_at dksX0_seasonEnds_2 5 rfl rfl)
theorem dX0_seasonEnds_53 : decode cX0_seasonEnds 53 = .ok (.iconst (-1), 1) := dk_2 (dk_at dksX0_seasonEnds_2 6 rfl rfl)
theorem dX0_seasonEnds_54 : decode cX0_seasonEnds 54 = .ok (.if_icmp .ne 6, 3) := dk_160 0 6 (dk_at dksX0_seasonEnds_2 7 rfl rfl)
theorem dX0_seasonEnds_57 : decode cX0_seasonEnds 57 = .ok (.goto 22, 3) := dk_167 0 22 (dk_at dksX0_seasonEnds_2 10 rfl rfl)
theorem dX0_seasonEnds_60 : decode cX0_seasonEnds 60 = .ok (.aload_n 1, 1) := dk_43 (dk_at dksX0_seasonEnds_2 13 rfl rfl)
theorem dX0_seasonEnds_61 : decode cX0_seasonEnds 61 = .ok (.iload_n 3, 1) := dk_29 (dk_at dksX0_seasonEnds_2 14 rfl rfl)
theorem dX0_seasonEnds_62 : decode cX0_seasonEnds 62 = .ok (.aaload, 1) := dk_50 (dk_at dksX0_seasonEnds_2 15 rfl rfl)
theorem dX0_seasonEnds_63 : decode cX0_seasonEnds 63 = .ok (.dup, 1) := dk_89 (dk_at dksX0_seasonEnds_2 16 rfl rfl)
theorem dX0_seasonEnds_64 : decode cX0_seasonEnds 64 = .ok (.getfield 218, 3) := dk_180 0 218 (dk_at dksX0_seasonEnds_2 17 rfl rfl)
theorem dX0_seasonEnds_67 : decode cX0_seasonEnds 67 = .ok (.iconst 2, 1) := dk_5 (dk_at dksX0_seasonEnds_2 20 rfl rfl)
theorem dX0_seasonEnds_68 : decode cX0_seasonEnds 68 = .ok (.isub, 1) := dk_100 (dk_at dksX0_seasonEnds_2 21 rfl rfl)
theorem dX0_seasonEnds_69 : decode cX0_seasonEnds 69 = .ok (.putfield 218, 3) := dk_181 0 218 (dk_at dksX0_seasonEnds_3 0 rfl rfl)
theorem dX0_seasonEnds_72 : decode cX0_seasonEnds 72 = .ok (.aload_n 1, 1) := dk_43 (dk_at dksX0_seasonEnds_3 3 rfl rfl)
theorem dX0_seasonEnds_73 : decode cX0_seasonEnds 73 = .ok (.iload_n 2, 1) := dk_28 (dk_at dksX0_seasonEnds_3 4 rfl rfl)
theorem dX0_seasonEnds_74 : decode cX0_seasonEnds 74 = .ok (.aaload, 1) := dk_50 (dk_at dksX0_seasonEnds_3 5 rfl rfl)
theorem dX0_seasonEnds_75 : decode cX0_seasonEnds 75 = .ok (.iconst 2, 1) := dk_5 (dk_at dksX0_seasonEnds_3 6 rfl rfl)
theorem dX0_seasonEnds_76 : decode cX0_seasonEnds 76 = .ok (.putfield 218, 3) := dk_181 0 218 (dk_at dksX0_seasonEnds_3 7 rfl rfl)
theorem dX0_seasonEnds_79 : decode cX0_seasonEnds 79 = .ok (.iinc 2 1, 3) := dk_132 2 1 (dk_at dksX0_seasonEnds_3 10 rfl rfl)
theorem dX0_seasonEnds_82 : decode cX0_seasonEnds 82 = .ok (.goto (-58), 3) := dk_167 255 198 (dk_at dksX0_seasonEnds_3 13 rfl rfl)
theorem dX0_seasonEnds_85 : decode cX0_seasonEnds 85 = .ok (.return_, 1) := dk_177 (dk_at dksX0_seasonEnds_3 16 rfl rfl)
abbrev cX0_clamp : ByteArray := prog_1_method_3_code
def yX0_clamp : MethodName := ⟨RX0, "clamp", "(III)I"⟩
def dkwX0_clamp_0 : List UInt8 := [27, 28, 26, 184, 0, 181, 184, 0, 187, 172]
abbrev dktX0_clamp_0 : List UInt8 := dkwX0_clamp_0 ++ []
theorem dksX0_clamp_0 : cX0_clamp.data.toList.drop 0 = dktX0_clamp_0 := by decide +kernel
theorem dX0_clamp_0 : decode cX0_clamp 0 = .ok (.iload_n 1, 1) := dk_27 (dk_at dksX0_clamp_0 0 rfl rfl)
theorem dX0_clamp_1 : decode cX0_clamp 1 = .ok (.iload_n 2, 1) := dk_28 (dk_at dksX0_clamp_0 1 rfl rfl)
theorem dX0_clamp_2 : decode cX0_clamp 2 = .ok (.iload_n 0, 1) := dk_26 (dk_at dksX0_clamp_0 2 rfl rfl)
theorem dX0_clamp_3 : decode cX0_clamp 3 = .ok (.invokestatic 181, 3) := dk_184 0 181 (dk_at dksX0_clamp_0 3 rfl rfl)
theorem dX0_clamp_6 : decode cX0_clamp 6 = .ok (.invokestatic 187, 3) := dk_184 0 187 (dk_at dksX0_clamp_0 6 rfl rfl)
theorem dX0_clamp_9 : decode cX0_clamp 9 = .ok (.ireturn, 1) := dk_172 (dk_at dksX0_clamp_0 9 rfl rfl)
abbrev cX0_strongBeside : ByteArray := prog_1_method_13_code
def yX0_strongBeside : MethodName := ⟨RX0, "strongBeside", "([LCliffHoney$Ledge;I)I"⟩
def dkwX0_strongBeside_2 : List UInt8 := [182, 0, 245, 162, 0, 6, 21, 4, 62, 132, 4, 1, 167, 255, 202, 29, 172]
abbrev dktX0_strongBeside_2 : List UInt8 := dkwX0_strongBeside_2 ++ []
def dkwX0_strongBeside_1 : List UInt8 := [161, 0, 33, 29, 2, 159, 0, 25, 43, 28, 50, 43, 21, 4, 50, 182, 0, 245, 43, 28, 50, 43, 29, 50]
abbrev dktX0_strongBeside_1 : List UInt8 := dkwX0_strongBeside_1 ++ dktX0_strongBeside_2
def dkwX0_strongBeside_0 : List UInt8 := [2, 62, 3, 54, 4, 21, 4, 42, 180, 0, 196, 162, 0, 51, 43, 21, 4, 50, 180, 0, 218, 16, 6]
abbrev dktX0_strongBeside_0 : List UInt8 := dkwX0_strongBeside_0 ++ dktX0_strongBeside_1
theorem dksX0_strongBeside_0 : cX0_strongBeside.data.toList.drop 0 = dktX0_strongBeside_0 := by decide +kernel
theorem dksX0_strongBeside_1 : cX0_strongBeside.data.toList.drop 23 = dktX0_strongBeside_1 := dk_seg dksX0_strongBeside_0 23 rfl rfl
theorem dksX0_strongBeside_2 : cX0_strongBeside.data.toList.drop 47 = dktX0_strongBeside_2 := dk_seg dksX0_strongBeside_1 24 rfl rfl
theorem dX0_strongBeside_0 : decode cX0_strongBeside 0 = .ok (.iconst (-1), 1) := dk_2 (dk_at dksX0_strongBeside_0 0 rfl rfl)
theorem dX0_strongBeside_1 : decode cX0_strongBeside 1 = .ok (.istore_n 3, 1) := dk_62 (dk_at dksX0_strongBeside_0 1 rfl rfl)
theorem dX0_strongBeside_2 : decode cX0_strongBeside 2 = .ok (.iconst 0, 1) := dk_3 (dk_at dksX0_strongBeside_0 2 rfl rfl)
theorem dX0_strongBeside_3 : decode cX0_strongBeside 3 = .ok (.istore 4, 2) := dk_54 4 (dk_at dksX0_strongBeside_0 3 rfl rfl)
theorem dX0_strongBeside_5 : decode cX0_strongBeside 5 = .ok (.iload 4, 2) := dk_21 4 (dk_at dksX0_strongBeside_0 5 rfl rfl)
theorem dX0_strongBeside_7 : decode cX0_strongBeside 7 = .ok (.aload_n 0, 1) := dk_42 (dk_at dksX0_strongBeside_0 7 rfl rfl)
theorem dX0_strongBeside_8 : decode cX0_strongBeside 8 = .ok (.getfield 196, 3) := dk_180 0 196 (dk_at dksX0_strongBeside_0 8 rfl rfl)
theorem dX0_strongBeside_11 : decode cX0_strongBeside 11 = .ok (.if_icmp .ge 51, 3) := dk_162 0 51 (dk_at dksX0_strongBeside_0 11 rfl rfl)
theorem dX0_strongBeside_14 : decode cX0_strongBeside 14 = .ok (.aload_n 1, 1) := dk_43 (dk_at dksX0_strongBeside_0 14 rfl rfl)
theorem dX0_strongBeside_15 : decode cX0_strongBeside 15 = .ok (.iload 4, 2) := dk_21 4 (dk_at dksX0_strongBeside_0 15 rfl rfl)
theorem dX0_strongBeside_17 : decode cX0_strongBeside 17 = .ok (.aaload, 1) := dk_50 (dk_at dksX0_strongBeside_0 17 rfl rfl)
theorem dX0_strongBeside_18 : decode cX0_strongBeside 18 = .ok (.getfield 218, 3) := dk_180 0 218 (dk_at dksX0_strongBeside_0 18 rfl rfl)
theorem dX0_strongBeside_21 : decode cX0_strongBeside 21 = .ok (.bipush 6, 2) := dk_16 6 (dk_at dksX0_strongBeside_0 21 rfl rfl)
theorem dX0_strongBeside_23 : decode cX0_strongBeside 23 = .ok (.if_icmp .lt 33, 3) := dk_161 0 33 (dk_at dksX0_strongBeside_1 0 rfl rfl)
theorem dX0_strongBeside_26 : decode cX0_strongBeside 26 = .ok (.iload_n 3, 1) := dk_29 (dk_at dksX0_strongBeside_1 3 rfl rfl)
theorem dX0_strongBeside_27 : decode cX0_strongBeside 27 = .ok (.iconst (-1), 1) := dk_2 (dk_at dksX0_strongBeside_1 4 rfl rfl)
theorem dX0_strongBeside_28 : decode cX0_strongBeside 28 = .ok (.if_icmp .eq 25, 3) := dk_159 0 25 (dk_at dksX0_strongBeside_1 5 rfl rfl)
theorem dX0_strongBeside_31 : decode cX0_strongBeside 31 = .ok (.aload_n 1, 1) := dk_43 (dk_at dksX0_strongBeside_1 8 rfl rfl)
theorem dX0_strongBeside_32 : decode cX0_strongBeside 32 = .ok (.iload_n 2, 1) := dk_28 (dk_at dksX0_strongBeside_1 9 rfl rfl)
theorem dX0_strongBeside_33 : decode cX0_strongBeside 33 = .ok (.aaload, 1) := dk_50 (dk_at dksX0_strongBeside_1 10 rfl rfl)
theorem dX0_strongBeside_34 : decode cX0_strongBeside 34 = .ok (.aload_n 1, 1) := dk_43 (dk_at dksX0_strongBeside_1 11 rfl rfl)
theorem dX0_strongBeside_35 : decode cX0_strongBeside 35 = .ok (.iload 4, 2) := dk_21 4 (dk_at dksX0_strongBeside_1 12 rfl rfl)
theorem dX0_strongBeside_37 : decode cX0_strongBeside 37 = .ok (.aaload, 1) := dk_50 (dk_at dksX0_strongBeside_1 14 rfl rfl)
theorem dX0_strongBeside_38 : decode cX0_strongBeside 38 = .ok (.invokevirtual 245, 3) := dk_182 0 245 (dk_at dksX0_strongBeside_1 15 rfl rfl)
theorem dX0_strongBeside_41 : decode cX0_strongBeside 41 = .ok (.aload_n 1, 1) := dk_43 (dk_at dksX0_strongBeside_1 18 rfl rfl)
theorem dX0_strongBeside_42 : decode cX0_strongBeside 42 = .ok (.iload_n 2, 1) := dk_28 (dk_at dksX0_strongBeside_1 19 rfl rfl)
theorem dX0_strongBeside_43 : decode cX0_strongBeside 43 = .ok (.aaload, 1) := dk_50 (dk_at dksX0_strongBeside_1 20 rfl rfl)
theorem dX0_strongBeside_44 : decode cX0_strongBeside 44 = .ok (.aload_n 1, 1) := dk_43 (dk_at dksX0_strongBeside_1 21 rfl rfl)
theorem dX0_strongBeside_45 : decode cX0_strongBeside 45 = .ok (.iload_n 3, 1) := dk_29 (dk_at dksX0_strongBeside_1 22 rfl rfl)
theorem dX0_strongBeside_46 : decode cX0_strongBeside 46 = .ok (.aaload, 1) := dk_50 (dk_at dksX0_strongBeside_1 23 rfl rfl)
theorem dX0_strongBeside_47 : decode cX0_strongBeside 47 = .ok (.invokevirtual 245, 3) := dk_182 0 245 (dk_at dksX0_strongBeside_2 0 rfl rfl)
theorem dX0_strongBeside_50 : decode cX0_strongBeside 50 = .ok (.if_icmp .ge 6, 3) := dk_162 0 6 (dk_at dksX0_strongBeside_2 3 rfl rfl)
theorem dX0_strongBeside_53 : decode cX0_strongBeside 53 = .ok (.iload 4, 2) := dk_21 4 (dk_at dksX0_strongBeside_2 6 rfl rfl)
theorem dX0_strongBeside_55 : decode cX0_strongBeside 55 = .ok (.istore_n 3, 1) := dk_62 (dk_at dksX0_strongBeside_2 8 rfl rfl)
theorem dX0_strongBeside_56 : decode cX0_strongBeside 56 = .ok (.iinc 4 1, 3) := dk_132 4 1 (dk_at dksX0_strongBeside_2 9 rfl rfl)
theorem dX0_strongBeside_59 : decode cX0_strongBeside 59 = .ok (.goto (-54), 3) := dk_167 255 202 (dk_at dksX0_strongBeside_2 12 rfl rfl)
theorem dX0_strongBeside_62 : decode cX0_strongBeside 62 = .ok (.iload_n 3, 1) := dk_29 (dk_at dksX0_strongBeside_2 15 rfl rfl)
theorem dX0_strongBeside_63 : decode cX0_strongBeside 63 = .ok (.ireturn, 1) := dk_172 (dk_at dksX0_strongBeside_2 16 rfl rfl)
abbrev cX0_weather : ByteArray := prog_1_method_16_code
def yX0_weather : MethodName := ⟨RX0, "weather", "(III)Z"⟩
def dkwX0_weather_2 : List UInt8 := [172]
abbrev dktX0_weather_2 : List UInt8 := dkwX0_weather_2 ++ []
def dkwX0_weather_1 : List UInt8 := [184, 0, 199, 154, 0, 5, 3, 172, 42, 27, 181, 1, 7, 42, 28, 181, 0, 25, 42, 29, 181, 0, 29, 4]
abbrev dktX0_weather_1 : List UInt8 := dkwX0_weather_1 ++ dktX0_weather_2
def dkwX0_weather_0 : List UInt8 := [27, 2, 4, 184, 0, 199, 153, 0, 24, 28, 3, 17, 2, 88, 184, 0, 199, 153, 0, 13, 29, 3, 16, 99]
abbrev dktX0_weather_0 : List UInt8 := dkwX0_weather_0 ++ dktX0_weather_1
theorem dksX0_weather_0 : cX0_weather.data.toList.drop 0 = dktX0_weather_0 := by decide +kernel
theorem dksX0_weather_1 : cX0_weather.data.toList.drop 24 = dktX0_weather_1 := dk_seg dksX0_weather_0 24 rfl rfl
theorem dksX0_weather_2 : cX0_weather.data.toList.drop 48 = dktX0_weather_2 := dk_seg dksX0_weather_1 24 rfl rfl
theorem dX0_weather_0 : decode cX0_weather 0 = .ok (.iload_n 1, 1) := dk_27 (dk_at dksX0_weather_0 0 rfl rfl)
theorem dX0_weather_1 : decode cX0_weather 1 = .ok (.iconst (-1), 1) := dk_2 (dk_at dksX0_weather_0 1 rfl rfl)
theorem dX0_weather_2 : decode cX0_weather 2 = .ok (.iconst 1, 1) := dk_4 (dk_at dksX0_weather_0 2 rfl rfl)
theorem dX0_weather_3 : decode cX0_weather 3 = .ok (.invokestatic 199, 3) := dk_184 0 199 (dk_at dksX0_weather_0 3 rfl rfl)
theorem dX0_weather_6 : decode cX0_weather 6 = .ok (.ifCond .eq 24, 3) := dk_153 0 24 (dk_at dksX0_weather_0 6 rfl rfl)
theorem dX0_weather_9 : decode cX0_weather 9 = .ok (.iload_n 2, 1) := dk_28 (dk_at dksX0_weather_0 9 rfl rfl)
theorem dX0_weather_10 : decode cX0_weather 10 = .ok (.iconst 0, 1) := dk_3 (dk_at dksX0_weather_0 10 rfl rfl)
theorem dX0_weather_11 : decode cX0_weather 11 = .ok (.sipush 600, 3) := dk_17 2 88 (dk_at dksX0_weather_0 11 rfl rfl)
theorem dX0_weather_14 : decode cX0_weather 14 = .ok (.invokestatic 199, 3) := dk_184 0 199 (dk_at dksX0_weather_0 14 rfl rfl)
theorem dX0_weather_17 : decode cX0_weather 17 = .ok (.ifCond .eq 13, 3) := dk_153 0 13 (dk_at dksX0_weather_0 17 rfl rfl)
theorem dX0_weather_20 : decode cX0_weather 20 = .ok (.iload_n 3, 1) := dk_29 (dk_at dksX0_weather_0 20 rfl rfl)
theorem dX0_weather_21 : decode cX0_weather 21 = .ok (.iconst 0, 1) := dk_3 (dk_at dksX0_weather_0 21 rfl rfl)
theorem dX0_weather_22 : decode cX0_weather 22 = .ok (.bipush 99, 2) := dk_16 99 (dk_at dksX0_weather_0 22 rfl rfl)
theorem dX0_weather_24 : decode cX0_weather 24 = .ok (.invokestatic 199, 3) := dk_184 0 199 (dk_at dksX0_weather_1 0 rfl rfl)
theorem dX0_weather_27 : decode cX0_weather 27 = .ok (.ifCond .ne 5, 3) := dk_154 0 5 (dk_at dksX0_weather_1 3 rfl rfl)
theorem dX0_weather_30 : decode cX0_weather 30 = .ok (.iconst 0, 1) := dk_3 (dk_at dksX0_weather_1 6 rfl rfl)
theorem dX0_weather_31 : decode cX0_weather 31 = .ok (.ireturn, 1) := dk_172 (dk_at dksX0_weather_1 7 rfl rfl)
theorem dX0_weather_32 : decode cX0_weather 32 = .ok (.aload_n 0, 1) := dk_42 (dk_at dksX0_weather_1 8 rfl rfl)
theorem dX0_weather_33 : decode cX0_weather 33 = .ok (.iload_n 1, 1) := dk_27 (dk_at dksX0_weather_1 9 rfl rfl)
theorem dX0_weather_34 : decode cX0_weather 34 = .ok (.putfield 263, 3) := dk_181 1 7 (dk_at dksX0_weather_1 10 rfl rfl)
theorem dX0_weather_37 : decode cX0_weather 37 = .ok (.aload_n 0, 1) := dk_42 (dk_at dksX0_weather_1 13 rfl rfl)
theorem dX0_weather_38 : decode cX0_weather 38 = .ok (.iload_n 2, 1) := dk_28 (dk_at dksX0_weather_1 14 rfl rfl)
theorem dX0_weather_39 : decode cX0_weather 39 = .ok (.putfield 25, 3) := dk_181 0 25 (dk_at dksX0_weather_1 15 rfl rfl)
theorem dX0_weather_42 : decode cX0_weather 42 = .ok (.aload_n 0, 1) := dk_42 (dk_at dksX0_weather_1 18 rfl rfl)
theorem dX0_weather_43 : decode cX0_weather 43 = .ok (.iload_n 3, 1) := dk_29 (dk_at dksX0_weather_1 19 rfl rfl)
theorem dX0_weather_44 : decode cX0_weather 44 = .ok (.putfield 29, 3) := dk_181 0 29 (dk_at dksX0_weather_1 20 rfl rfl)
theorem dX0_weather_47 : decode cX0_weather 47 = .ok (.iconst 1, 1) := dk_4 (dk_at dksX0_weather_1 23 rfl rfl)
theorem dX0_weather_48 : decode cX0_weather 48 = .ok (.ireturn, 1) := dk_172 (dk_at dksX0_weather_2 0 rfl rfl)
abbrev cX0_look : ByteArray := prog_1_method_18_code
def yX0_look : MethodName := ⟨RX0, "look", "(I)I"⟩
def dkwX0_look_6 : List UInt8 := [180, 0, 11, 182, 1, 24, 172, 16, 246, 172]
abbrev dktX0_look_6 : List UInt8 := dkwX0_look_6 ++ []
def dkwX0_look_5 : List UInt8 := [96, 61, 132, 3, 1, 167, 255, 225, 28, 172, 42, 180, 1, 18, 172, 42, 180, 1, 21, 172, 42, 42]
abbrev dktX0_look_5 : List UInt8 := dkwX0_look_5 ++ dktX0_look_6
def dkwX0_look_4 : List UInt8 := [180, 1, 12, 162, 0, 29, 28, 42, 180, 0, 150, 29, 50, 180, 1, 15, 153, 0, 7, 4, 167, 0, 4, 3]
abbrev dktX0_look_4 : List UInt8 := dkwX0_look_4 ++ dktX0_look_5
def dkwX0_look_3 : List UInt8 := [184, 0, 190, 172, 42, 180, 0, 193, 16, 30, 112, 172, 42, 180, 0, 142, 172, 3, 61, 3, 62, 29, 42]
abbrev dktX0_look_3 : List UInt8 := dkwX0_look_3 ++ dktX0_look_4
def dkwX0_look_2 : List UInt8 := [42, 180, 0, 193, 172, 42, 182, 1, 9, 172, 42, 180, 0, 193, 16, 60, 112, 172, 42, 180, 0, 193]
abbrev dktX0_look_2 : List UInt8 := dkwX0_look_2 ++ dktX0_look_3
def dkwX0_look_1 : List UInt8 := [170, 0, 0, 0, 0, 0, 153, 0, 0, 0, 0, 0, 0, 0, 9, 0, 0, 0, 55, 0, 0, 0, 60, 0, 0, 0, 65, 0, 0, 0, 73, 0, 0, 0, 81, 0, 0, 0, 89, 0, 0, 0, 94, 0, 0, 0, 134, 0, 0, 0, 139, 0, 0, 0, 144]
abbrev dktX0_look_1 : List UInt8 := dkwX0_look_1 ++ dktX0_look_2
def dkwX0_look_0 : List UInt8 := [27]
abbrev dktX0_look_0 : List UInt8 := dkwX0_look_0 ++ dktX0_look_1
theorem dksX0_look_0 : cX0_look.data.toList.drop 0 = dktX0_look_0 := by decide +kernel
theorem dksX0_look_1 : cX0_look.data.toList.drop 1 = dktX0_look_1 := dk_seg dksX0_look_0 1 rfl rfl
theorem dksX0_look_2 : cX0_look.data.toList.drop 56 = dktX0_look_2 := dk_seg dksX0_look_1 55 rfl rfl
theorem dksX0_look_3 : cX0_look.data.toList.drop 78 = dktX0_look_3 := dk_seg dksX0_look_2 22 rfl rfl
theorem dksX0_look_4 : cX0_look.data.toList.drop 101 = dktX0_look_4 := dk_seg dksX0_look_3 23 rfl rfl
theorem dksX0_look_5 : cX0_look.data.toList.drop 125 = dktX0_look_5 := dk_seg dksX0_look_4 24 rfl rfl
theorem dksX0_look_6 : cX0_look.data.toList.drop 147 = dktX0_look_6 := dk_seg dksX0_look_5 22 rfl rfl
theorem dX0_look_0 : decode cX0_look 0 = .ok (.iload_n 1, 1) := dk_27 (dk_at dksX0_look_0 0 rfl rfl)
theorem dX0_look_1 : decode cX0_look 1 = .ok (.tableswitch 153 0 9 #[55, 60, 65, 73, 81, 89, 94, 134, 139, 144], 55) := by decide +kernel
theorem dX0_look_56 : decode cX0_look 56 = .ok (.aload_n 0, 1) := dk_42 (dk_at dksX0_look_2 0 rfl rfl)
theorem dX0_look_57 : decode cX0_look 57 = .ok (.getfield 193, 3) := dk_180 0 193 (dk_at dksX0_look_2 1 rfl rfl)
theorem dX0_look_60 : decode cX0_look 60 = .ok (.ireturn, 1) := dk_172 (dk_at dksX0_look_2 4 rfl rfl)
theorem dX0_look_61 : decode cX0_look 61 = .ok (.aload_n 0, 1) := dk_42 (dk_at dksX0_look_2 5 rfl rfl)
theorem dX0_look_62 : decode cX0_look 62 = .ok (.invokevirtual 265, 3) := dk_182 1 9 (dk_at dksX0_look_2 6 rfl rfl)
theorem dX0_look_65 : decode cX0_look 65 = .ok (.ireturn, 1) := dk_172 (dk_at dksX0_look_2 9 rfl rfl)
theorem dX0_look_66 : decode cX0_look 66 = .ok (.aload_n 0, 1) := dk_42 (dk_at dksX0_look_2 10 rfl rfl)
theorem dX0_look_67 : decode cX0_look 67 = .ok (.getfield 193, 3) := dk_180 0 193 (dk_at dksX0_look_2 11 rfl rfl)
theorem dX0_look_70 : decode cX0_look 70 = .ok (.bipush 60, 2) := dk_16 60 (dk_at dksX0_look_2 14 rfl rfl)
theorem dX0_look_72 : decode cX0_look 72 = .ok (.irem, 1) := dk_112 (dk_at dksX0_look_2 16 rfl rfl)
theorem dX0_look_73 : decode cX0_look 73 = .ok (.ireturn, 1) := dk_172 (dk_at dksX0_look_2 17 rfl rfl)
theorem dX0_look_74 : decode cX0_look 74 = .ok (.aload_n 0, 1) := dk_42 (dk_at dksX0_look_2 18 rfl rfl)
theorem dX0_look_75 : decode cX0_look 75 = .ok (.getfield 193, 3) := dk_180 0 193 (dk_at dksX0_look_2 19 rfl rfl)
theorem dX0_look_78 : decode cX0_look 78 = .ok (.invokestatic 190, 3) := dk_184 0 190 (dk_at dksX0_look_3 0 rfl rfl)
theorem dX0_look_81 : decode cX0_look 81 = .ok (.ireturn, 1) := dk_172 (dk_at dksX0_look_3 3 rfl rfl)
theorem dX0_look_82 : decode cX0_look 82 = .ok (.aload_n 0, 1) := dk_42 (dk_at dksX0_look_3 4 rfl rfl)
theorem dX0_look_83 : decode cX0_look 83 = .ok (.getfield 193, 3) := dk_180 0 193 (dk_at dksX0_look_3 5 rfl rfl)
theorem dX0_look_86 : decode cX0_look 86 = .ok (.bipush 30, 2) := dk_16 30 (dk_at dksX0_look_3 8 rfl rfl)
theorem dX0_look_88 : decode cX0_look 88 = .ok (.irem, 1) := dk_112 (dk_at dksX0_look_3 10 rfl rfl)
theorem dX0_look_89 : decode cX0_look 89 = .ok (.ireturn, 1) := dk_172 (dk_at dksX0_look_3 11 rfl rfl)
theorem dX0_look_90 : decode cX0_look 90 = .ok (.aload_n 0, 1) := dk_42 (dk_at dksX0_look_3 12 rfl rfl)
theorem dX0_look_91 : decode cX0_look 91 = .ok (.getfield 142, 3) := dk_180 0 142 (dk_at dksX0_look_3 13 rfl rfl)
theorem dX0_look_94 : decode cX0_look 94 = .ok (.ireturn, 1) := dk_172 (dk_at dksX0_look_3 16 rfl rfl)
theorem dX0_look_95 : decode cX0_look 95 = .ok (.iconst 0, 1) := dk_3 (dk_at dksX0_look_3 17 rfl rfl)
theorem dX0_look_96 : decode cX0_look 96 = .ok (.istore_n 2, 1) := dk_61 (dk_at dksX0_look_3 18 rfl rfl)
theorem dX0_look_97 : decode cX0_look 97 = .ok (.iconst 0, 1) := dk_3 (dk_at dksX0_look_3 19 rfl rfl)
theorem dX0_look_98 : decode cX0_look 98 = .ok (.istore_n 3, 1) := dk_62 (dk_at dksX0_look_3 20 rfl rfl)
theorem dX0_look_99 : decode cX0_look 99 = .ok (.iload_n 3, 1) := dk_29 (dk_at dksX0_look_3 21 rfl rfl)
theorem dX0_look_100 : decode cX0_look 100 = .ok (.aload_n 0, 1) := dk_42 (dk_at dksX0_look_3 22 rfl rfl)
theorem dX0_look_101 : decode cX0_look 101 = .ok (.getfield 268, 3) := dk_180 1 12 (dk_at dksX0_look_4 0 rfl rfl)
theorem dX0_look_104 : decode cX0_look 104 = .ok (.if_icmp .ge 29, 3) := dk_162 0 29 (dk_at dksX0_look_4 3 rfl rfl)
theorem dX0_look_107 : decode cX0_look 107 = .ok (.iload_n 2, 1) := dk_28 (dk_at dksX0_look_4 6 rfl rfl)
theorem dX0_look_108 : decode cX0_look 108 = .ok (.aload_n 0, 1) := dk_42 (dk_at dksX0_look_4 7 rfl rfl)
theorem dX0_look_109 : decode cX0_look 109 = .ok (.getfield 150, 3) := dk_180 0 150 (dk_at dksX0_look_4 8 rfl rfl)
theorem dX0_look_112 : decode cX0_look 112 = .ok (.iload_n 3, 1) := dk_29 (dk_at dksX0_look_4 11 rfl rfl)
theorem dX0_look_113 : decode cX0_look 113 = .ok (.aaload, 1) := dk_50 (dk_at dksX0_look_4 12 rfl rfl)
theorem dX0_look_114 : decode cX0_look 114 = .ok (.getfield 271, 3) := dk_180 1 15 (dk_at dksX0_look_4 13 rfl rfl)
theorem dX0_look_117 : decode cX0_look 117 = .ok (.ifCond .eq 7, 3) := dk_153 0 7 (dk_at dksX0_look_4 16 rfl rfl)
theorem dX0_look_120 : decode cX0_look 120 = .ok (.iconst 1, 1) := dk_4 (dk_at dksX0_look_4 19 rfl rfl)
theorem dX0_look_121 : decode cX0_look 121 = .ok (.goto 4, 3) := dk_167 0 4 (dk_at dksX0_look_4 20 rfl rfl)
theorem dX0_look_124 : decode cX0_look 124 = .ok (.iconst 0, 1) := dk_3 (dk_at dksX0_look_4 23 rfl rfl)
theorem dX0_look_125 : decode cX0_look 125 = .ok (.iadd, 1) := dk_96 (dk_at dksX0_look_5 0 rfl rfl)
theorem dX0_look_126 : decode cX0_look 126 = .ok (.istore_n 2, 1) := dk_61 (dk_at dksX0_look_5 1 rfl rfl)
theorem dX0_look_127 : decode cX0_look 127 = .ok (.iinc 3 1, 3) := dk_132 3 1 (dk_at dksX0_look_5 2 rfl rfl)
theorem dX0_look_130 : decode cX0_look 130 = .ok (.goto (-31), 3) := dk_167 255 225 (dk_at dksX0_look_5 5 rfl rfl)
theorem dX0_look_133 : decode cX0_look 133 = .ok (.iload_n 2, 1) := dk_28 (dk_at dksX0_look_5 8 rfl rfl)
theorem dX0_look_134 : decode cX0_look 134 = .ok (.ireturn, 1) := dk_172 (dk_at dksX0_look_5 9 rfl rfl)
theorem dX0_look_135 : decode cX0_look 135 = .ok (.aload_n 0, 1) := dk_42 (dk_at dksX0_look_5 10 rfl rfl)
theorem dX0_look_136 : decode cX0_look 136 = .ok (.getfield 274, 3) := dk_180 1 18 (dk_at dksX0_look_5 11 rfl rfl)
theorem dX0_look_139 : decode cX0_look 139 = .ok (.ireturn, 1) := dk_172 (dk_at dksX0_look_5 14 rfl rfl)
theorem dX0_look_140 : decode cX0_look 140 = .ok (.aload_n 0, 1) := dk_42 (dk_at dksX0_look_5 15 rfl rfl)
theorem dX0_look_141 : decode cX0_look 141 = .ok (.getfield 277, 3) := dk_180 1 21 (dk_at dksX0_look_5 16 rfl rfl)
theorem dX0_look_144 : decode cX0_look 144 = .ok (.ireturn, 1) := dk_172 (dk_at dksX0_look_5 19 rfl rfl)
theorem dX0_look_145 : decode cX0_look 145 = .ok (.aload_n 0, 1) := dk_42 (dk_at dksX0_look_5 20 rfl rfl)
theorem dX0_look_146 : decode cX0_look 146 = .ok (.aload_n 0, 1) := dk_42 (dk_at dksX0_look_5 21 rfl rfl)
theorem dX0_look_147 : decode cX0_look 147 = .ok (.getfield 11, 3) := dk_180 0 11 (dk_at dksX0_look_6 0 rfl rfl)
theorem dX0_look_150 : decode cX0_look 150 = .ok (.invokevirtual 280, 3) := dk_182 1 24 (dk_at dksX0_look_6 3 rfl rfl)
theorem dX0_look_153 : decode cX0_look 153 = .ok (.ireturn, 1) := dk_172 (dk_at dksX0_look_6 6 rfl rfl)
theorem dX0_look_154 : decode cX0_look 154 = .ok (.bipush (-10), 2) := dk_16 246 (dk_at dksX0_look_6 7 rfl rfl)
theorem dX0_look_156 : decode cX0_look 156 = .ok (.ireturn, 1) := dk_172 (dk_at dksX0_look_6 9 rfl rfl)
abbrev cX0_season : ByteArray := prog_1_method_6_code
def yX0_season : MethodName := ⟨RX0, "season", "()I"⟩
def dkwX0_season_0 : List UInt8 := [42, 180, 0, 193, 16, 60, 108, 172]
abbrev dktX0_season_0 : List UInt8 := dkwX0_season_0 ++ []
theorem dksX0_season_0 : cX0_season.data.toList.drop 0 = dktX0_season_0 := by decide +kernel
theorem dX0_season_0 : decode cX0_season 0 = .ok (.aload_n 0, 1) := dk_42 (dk_at dksX0_season_0 0 rfl rfl)
theorem dX0_season_1 : decode cX0_season 1 = .ok (.getfield 193, 3) := dk_180 0 193 (dk_at dksX0_season_0 1 rfl rfl)
theorem dX0_season_4 : decode cX0_season 4 = .ok (.bipush 60, 2) := dk_16 60 (dk_at dksX0_season_0 4 rfl rfl)
theorem dX0_season_6 : decode cX0_season 6 = .ok (.idiv, 1) := dk_108 (dk_at dksX0_season_0 6 rfl rfl)
theorem dX0_season_7 : decode cX0_season 7 = .ok (.ireturn, 1) := dk_172 (dk_at dksX0_season_0 7 rfl rfl)
abbrev cX0_strengths : ByteArray := prog_1_method_17_code
def yX0_strengths : MethodName := ⟨RX0, "strengths", "([LCliffHoney$Ledge;)I"⟩
def dkwX0_strengths_1 : List UInt8 := [167, 255, 236, 28, 172]
abbrev dktX0_strengths_1 : List UInt8 := dkwX0_strengths_1 ++ []
def dkwX0_strengths_0 : List UInt8 := [3, 61, 3, 62, 29, 42, 180, 0, 196, 162, 0, 18, 28, 43, 29, 50, 180, 0, 218, 96, 61, 132, 3, 1]
abbrev dktX0_strengths_0 : List UInt8 := dkwX0_strengths_0 ++ dktX0_strengths_1
theorem dksX0_strengths_0 : cX0_strengths.data.toList.drop 0 = dktX0_strengths_0 := by decide +kernel
theorem dksX0_strengths_1 : cX0_strengths.data.toList.drop 24 = dktX0_strengths_1 := dk_seg dksX0_strengths_0 24 rfl rfl
theorem dX0_strengths_0 : decode cX0_strengths 0 = .ok (.iconst 0, 1) := dk_3 (dk_at dksX0_strengths_0 0 rfl rfl)
theorem dX0_strengths_1 : decode cX0_strengths 1 = .ok (.istore_n 2, 1) := dk_61 (dk_at dksX0_strengths_0 1 rfl rfl)
theorem dX0_strengths_2 : decode cX0_strengths 2 = .ok (.iconst 0, 1) := dk_3 (dk_at dksX0_strengths_0 2 rfl rfl)
theorem dX0_strengths_3 : decode cX0_strengths 3 = .ok (.istore_n 3, 1) := dk_62 (dk_at dksX0_strengths_0 3 rfl rfl)
theorem dX0_strengths_4 : decode cX0_strengths 4 = .ok (.iload_n 3, 1) := dk_29 (dk_at dksX0_strengths_0 4 rfl rfl)
theorem dX0_strengths_5 : decode cX0_strengths 5 = .ok (.aload_n 0, 1) := dk_42 (dk_at dksX0_strengths_0 5 rfl rfl)
theorem dX0_strengths_6 : decode cX0_strengths 6 = .ok (.getfield 196, 3) := dk_180 0 196 (dk_at dksX0_strengths_0 6 rfl rfl)
theorem dX0_strengths_9 : decode cX0_strengths 9 = .ok (.if_icmp .ge 18, 3) := dk_162 0 18 (dk_at dksX0_strengths_0 9 rfl rfl)
theorem dX0_strengths_12 : decode cX0_strengths 12 = .ok (.iload_n 2, 1) := dk_28 (dk_at dksX0_strengths_0 12 rfl rfl)
theorem dX0_strengths_13 : decode cX0_strengths 13 = .ok (.aload_n 1, 1) := dk_43 (dk_at dksX0_strengths_0 13 rfl rfl)
theorem dX0_strengths_14 : decode cX0_strengths 14 = .ok (.iload_n 3, 1) := dk_29 (dk_at dksX0_strengths_0 14 rfl rfl)
theorem dX0_strengths_15 : decode cX0_strengths 15 = .ok (.aaload, 1) := dk_50 (dk_at dksX0_strengths_0 15 rfl rfl)
theorem dX0_strengths_16 : decode cX0_strengths 16 = .ok (.getfield 218, 3) := dk_180 0 218 (dk_at dksX0_strengths_0 16 rfl rfl)
theorem dX0_strengths_19 : decode cX0_strengths 19 = .ok (.iadd, 1) := dk_96 (dk_at dksX0_strengths_0 19 rfl rfl)
theorem dX0_strengths_20 : decode cX0_strengths 20 = .ok (.istore_n 2, 1) := dk_61 (dk_at dksX0_strengths_0 20 rfl rfl)
theorem dX0_strengths_21 : decode cX0_strengths 21 = .ok (.iinc 3 1, 3) := dk_132 3 1 (dk_at dksX0_strengths_0 21 rfl rfl)
theorem dX0_strengths_24 : decode cX0_strengths 24 = .ok (.goto (-20), 3) := dk_167 255 236 (dk_at dksX0_strengths_1 0 rfl rfl)
theorem dX0_strengths_27 : decode cX0_strengths 27 = .ok (.iload_n 2, 1) := dk_28 (dk_at dksX0_strengths_1 3 rfl rfl)
theorem dX0_strengths_28 : decode cX0_strengths 28 = .ok (.ireturn, 1) := dk_172 (dk_at dksX0_strengths_1 4 rfl rfl)
abbrev cX0_rules : ByteArray := prog_1_method_21_code
def yX0_rules : MethodName := ⟨RX0, "rules", "(I)I"⟩
def dkwX0_rules_6 : List UInt8 := [42, 3, 181, 1, 37, 29, 172, 58, 4, 42, 3, 181, 1, 37, 25, 4, 191]
abbrev dktX0_rules_6 : List UInt8 := dkwX0_rules_6 ++ []
def dkwX0_rules_5 : List UInt8 := [181, 1, 37, 28, 172, 77, 42, 44, 180, 1, 28, 181, 1, 56, 42, 44, 180, 1, 31, 181, 0, 36, 2, 62]
abbrev dktX0_rules_5 : List UInt8 := dkwX0_rules_5 ++ dktX0_rules_6
def dkwX0_rules_4 : List UInt8 := [167, 255, 224, 42, 3, 181, 1, 56, 42, 2, 181, 0, 36, 42, 180, 0, 99, 180, 1, 47, 61, 42, 3]
abbrev dktX0_rules_4 : List UInt8 := dkwX0_rules_4 ++ dktX0_rules_5
def dkwX0_rules_3 : List UInt8 := [162, 0, 27, 42, 180, 0, 99, 180, 1, 43, 28, 50, 42, 180, 0, 117, 27, 50, 182, 1, 50, 132, 2, 1]
abbrev dktX0_rules_3 : List UInt8 := dkwX0_rules_3 ++ dktX0_rules_4
def dkwX0_rules_2 : List UInt8 := [79, 42, 180, 0, 117, 27, 187, 0, 114, 89, 183, 0, 116, 83, 3, 61, 28, 42, 180, 0, 99, 180, 1, 47]
abbrev dktX0_rules_2 : List UInt8 := dkwX0_rules_2 ++ dktX0_rules_3
def dkwX0_rules_1 : List UInt8 := [180, 0, 105, 27, 42, 180, 0, 99, 180, 1, 43, 83, 42, 180, 0, 108, 27, 42, 180, 0, 99, 180, 1, 47]
abbrev dktX0_rules_1 : List UInt8 := dkwX0_rules_1 ++ dktX0_rules_2
def dkwX0_rules_0 : List UInt8 := [27, 184, 1, 34, 154, 0, 12, 2, 61, 42, 3, 181, 1, 37, 28, 172, 42, 180, 0, 99, 182, 1, 40, 42]
abbrev dktX0_rules_0 : List UInt8 := dkwX0_rules_0 ++ dktX0_rules_1
theorem dksX0_rules_0 : cX0_rules.data.toList.drop 0 = dktX0_rules_0 := by decide +kernel
theorem dksX0_rules_1 : cX0_rules.data.toList.drop 24 = dktX0_rules_1 := dk_seg dksX0_rules_0 24 rfl rfl
theorem dksX0_rules_2 : cX0_rules.data.toList.drop 48 = dktX0_rules_2 := dk_seg dksX0_rules_1 24 rfl rfl
theorem dksX0_rules_3 : cX0_rules.data.toList.drop 72 = dktX0_rules_3 := dk_seg dksX0_rules_2 24 rfl rfl
theorem dksX0_rules_4 : cX0_rules.data.toList.drop 96 = dktX0_rules_4 := dk_seg dksX0_rules_3 24 rfl rfl
theorem dksX0_rules_5 : cX0_rules.data.toList.drop 119 = dktX0_rules_5 := dk_seg dksX0_rules_4 23 rfl rfl
theorem dksX0_rules_6 : cX0_rules.data.toList.drop 143 = dktX0_rules_6 := dk_seg dksX0_rules_5 24 rfl rfl
theorem dX0_rules_0 : decode cX0_rules 0 = .ok (.iload_n 1, 1) := dk_27 (dk_at dksX0_rules_0 0 rfl rfl)
theorem dX0_rules_1 : decode cX0_rules 1 = .ok (.invokestatic 290, 3) := dk_184 1 34 (dk_at dksX0_rules_0 1 rfl rfl)
theorem dX0_rules_4 : decode cX0_rules 4 = .ok (.ifCond .ne 12, 3) := dk_154 0 12 (dk_at dksX0_rules_0 4 rfl rfl)
theorem dX0_rules_7 : decode cX0_rules 7 = .ok (.iconst (-1), 1) := dk_2 (dk_at dksX0_rules_0 7 rfl rfl)
theorem dX0_rules_8 : decode cX0_rules 8 = .ok (.istore_n 2, 1) := dk_61 (dk_at dksX0_rules_0 8 rfl rfl)
theorem dX0_rules_9 : decode cX0_rules 9 = .ok (.aload_n 0, 1) := dk_42 (dk_at dksX0_rules_0 9 rfl rfl)
theorem dX0_rules_10 : decode cX0_rules 10 = .ok (.iconst 0, 1) := dk_3 (dk_at dksX0_rules_0 10 rfl rfl)
theorem dX0_rules_11 : decode cX0_rules 11 = .ok (.putfield 293, 3) := dk_181 1 37 (dk_at dksX0_rules_0 11 rfl rfl)
theorem dX0_rules_14 : decode cX0_rules 14 = .ok (.iload_n 2, 1) := dk_28 (dk_at dksX0_rules_0 14 rfl rfl)
theorem dX0_rules_15 : decode cX0_rules 15 = .ok (.ireturn, 1) := dk_172 (dk_at dksX0_rules_0 15 rfl rfl)
theorem dX0_rules_16 : decode cX0_rules 16 = .ok (.aload_n 0, 1) := dk_42 (dk_at dksX0_rules_0 16 rfl rfl)
theorem dX0_rules_17 : decode cX0_rules 17 = .ok (.getfield 99, 3) := dk_180 0 99 (dk_at dksX0_rules_0 17 rfl rfl)
theorem dX0_rules_20 : decode cX0_rules 20 = .ok (.invokevirtual 296, 3) := dk_182 1 40 (dk_at dksX0_rules_0 20 rfl rfl)
theorem dX0_rules_23 : decode cX0_rules 23 = .ok (.aload_n 0, 1) := dk_42 (dk_at dksX0_rules_0 23 rfl rfl)
theorem dX0_rules_24 : decode cX0_rules 24 = .ok (.getfield 105, 3) := dk_180 0 105 (dk_at dksX0_rules_1 0 rfl rfl)
theorem dX0_rules_27 : decode cX0_rules 27 = .ok (.iload_n 1, 1) := dk_27 (dk_at dksX0_rules_1 3 rfl rfl)
theorem dX0_rules_28 : decode cX0_rules 28 = .ok (.aload_n 0, 1) := dk_42 (dk_at dksX0_rules_1 4 rfl rfl)
theorem dX0_rules_29 : decode cX0_rules 29 = .ok (.getfield 99, 3) := dk_180 0 99 (dk_at dksX0_rules_1 5 rfl rfl)
theorem dX0_rules_32 : decode cX0_rules 32 = .ok (.getfield 299, 3) := dk_180 1 43 (dk_at dksX0_rules_1 8 rfl rfl)
theorem dX0_rules_35 : decode cX0_rules 35 = .ok (.aastore, 1) := dk_83 (dk_at dksX0_rules_1 11 rfl rfl)
theorem dX0_rules_36 : decode cX0_rules 36 = .ok (.aload_n 0, 1) := dk_42 (dk_at dksX0_rules_1 12 rfl rfl)
theorem dX0_rules_37 : decode cX0_rules 37 = .ok (.getfield 108, 3) := dk_180 0 108 (dk_at dksX0_rules_1 13 rfl rfl)
theorem dX0_rules_40 : decode cX0_rules 40 = .ok (.iload_n 1, 1) := dk_27 (dk_at dksX0_rules_1 16 rfl rfl)
theorem dX0_rules_41 : decode cX0_rules 41 = .ok (.aload_n 0, 1) := dk_42 (dk_at dksX0_rules_1 17 rfl rfl)
theorem dX0_rules_42 : decode cX0_rules 42 = .ok (.getfield 99, 3) := dk_180 0 99 (dk_at dksX0_rules_1 18 rfl rfl)
theorem dX0_rules_45 : decode cX0_rules 45 = .ok (.getfield 303, 3) := dk_180 1 47 (dk_at dksX0_rules_1 21 rfl rfl)
theorem dX0_rules_48 : decode cX0_rules 48 = .ok (.iastore, 1) := dk_79 (dk_at dksX0_rules_2 0 rfl rfl)
theorem dX0_rules_49 : decode cX0_rules 49 = .ok (.aload_n 0, 1) := dk_42 (dk_at dksX0_rules_2 1 rfl rfl)
theorem dX0_rules_50 : decode cX0_rules 50 = .ok (.getfield 117, 3) := dk_180 0 117 (dk_at dksX0_rules_2 2 rfl rfl)
theorem dX0_rules_53 : decode cX0_rules 53 = .ok (.iload_n 1, 1) := dk_27 (dk_at dksX0_rules_2 5 rfl rfl)
theorem dX0_rules_54 : decode cX0_rules 54 = .ok (.new 114, 3) := dk_187 0 114 (dk_at dksX0_rules_2 6 rfl rfl)
theorem dX0_rules_57 : decode cX0_rules 57 = .ok (.dup, 1) := dk_89 (dk_at dksX0_rules_2 9 rfl rfl)
theorem dX0_rules_58 : decode cX0_rules 58 = .ok (.invokespecial 116, 3) := dk_183 0 116 (dk_at dksX0_rules_2 10 rfl rfl)
theorem dX0_rules_61 : decode cX0_rules 61 = .ok (.aastore, 1) := dk_83 (dk_at dksX0_rules_2 13 rfl rfl)
theorem dX0_rules_62 : decode cX0_rules 62 = .ok (.iconst 0, 1) := dk_3 (dk_at dksX0_rules_2 14 rfl rfl)
theorem dX0_rules_63 : decode cX0_rules 63 = .ok (.istore_n 2, 1) := dk_61 (dk_at dksX0_rules_2 15 rfl rfl)
theorem dX0_rules_64 : decode cX0_rules 64 = .ok (.iload_n 2, 1) := dk_28 (dk_at dksX0_rules_2 16 rfl rfl)
theorem dX0_rules_65 : decode cX0_rules 65 = .ok (.aload_n 0, 1) := dk_42 (dk_at dksX0_rules_2 17 rfl rfl)
theorem dX0_rules_66 : decode cX0_rules 66 = .ok (.getfield 99, 3) := dk_180 0 99 (dk_at dksX0_rules_2 18 rfl rfl)
theorem dX0_rules_69 : decode cX0_rules 69 = .ok (.getfield 303, 3) := dk_180 1 47 (dk_at dksX0_rules_2 21 rfl rfl)
theorem dX0_rules_72 : decode cX0_rules 72 = .ok (.if_icmp .ge 27, 3) := dk_162 0 27 (dk_at dksX0_rules_3 0 rfl rfl)
theorem dX0_rules_75 : decode cX0_rules 75 = .ok (.aload_n 0, 1) := dk_42 (dk_at dksX0_rules_3 3 rfl rfl)
theorem dX0_rules_76 : decode cX0_rules 76 = .ok (.getfield 99, 3) := dk_180 0 99 (dk_at dksX0_rules_3 4 rfl rfl)
theorem dX0_rules_79 : decode cX0_rules 79 = .ok (.getfield 299, 3) := dk_180 1 43 (dk_at dksX0_rules_3 7 rfl rfl)
theorem dX0_rules_82 : decode cX0_rules 82 = .ok (.iload_n 2, 1) := dk_28 (dk_at dksX0_rules_3 10 rfl rfl)
theorem dX0_rules_83 : decode cX0_rules 83 = .ok (.aaload, 1) := dk_50 (dk_at dksX0_rules_3 11 rfl rfl)
theorem dX0_rules_84 : decode cX0_rules 84 = .ok (.aload_n 0, 1) := dk_42 (dk_at dksX0_rules_3 12 rfl rfl)
theorem dX0_rules_85 : decode cX0_rules 85 = .ok (.getfield 117, 3) := dk_180 0 117 (dk_at dksX0_rules_3 13 rfl rfl)
theorem dX0_rules_88 : decode cX0_rules 88 = .ok (.iload_n 1, 1) := dk_27 (dk_at dksX0_rules_3 16 rfl rfl)
theorem dX0_rules_89 : decode cX0_rules 89 = .ok (.aaload, 1) := dk_50 (dk_at dksX0_rules_3 17 rfl rfl)
theorem dX0_rules_90 : decode cX0_rules 90 = .ok (.invokevirtual 306, 3) := dk_182 1 50 (dk_at dksX0_rules_3 18 rfl rfl)
theorem dX0_rules_93 : decode cX0_rules 93 = .ok (.iinc 2 1, 3) := dk_132 2 1 (dk_at dksX0_rules_3 21 rfl rfl)
theorem dX0_rules_96 : decode cX0_rules 96 = .ok (.goto (-32), 3) := dk_167 255 224 (dk_at dksX0_rules_4 0 rfl rfl)
theorem dX0_rules_99 : decode cX0_rules 99 = .ok (.aload_n 0, 1) := dk_42 (dk_at dksX0_rules_4 3 rfl rfl)
theorem dX0_rules_100 : decode cX0_rules 100 = .ok (.iconst 0, 1) := dk_3 (dk_at dksX0_rules_4 4 rfl rfl)
theorem dX0_rules_101 : decode cX0_rules 101 = .ok (.putfield 312, 3) := dk_181 1 56 (dk_at dksX0_rules_4 5 rfl rfl)
theorem dX0_rules_104 : decode cX0_rules 104 = .ok (.aload_n 0, 1) := dk_42 (dk_at dksX0_rules_4 8 rfl rfl)
theorem dX0_rules_105 : decode cX0_rules 105 = .ok (.iconst (-1), 1) := dk_2 (dk_at dksX0_rules_4 9 rfl rfl)
theorem dX0_rules_106 : decode cX0_rules 106 = .ok (.putfield 36, 3) := dk_181 0 36 (dk_at dksX0_rules_4 10 rfl rfl)
theorem dX0_rules_109 : decode cX0_rules 109 = .ok (.aload_n 0, 1) := dk_42 (dk_at dksX0_rules_4 13 rfl rfl)
theorem dX0_rules_110 : decode cX0_rules 110 = .ok (.getfield 99, 3) := dk_180 0 99 (dk_at dksX0_rules_4 14 rfl rfl)
theorem dX0_rules_113 : decode cX0_rules 113 = .ok (.getfield 303, 3) := dk_180 1 47 (dk_at dksX0_rules_4 17 rfl rfl)
theorem dX0_rules_116 : decode cX0_rules 116 = .ok (.istore_n 2, 1) := dk_61 (dk_at dksX0_rules_4 20 rfl rfl)
theorem dX0_rules_117 : decode cX0_rules 117 = .ok (.aload_n 0, 1) := dk_42 (dk_at dksX0_rules_4 21 rfl rfl)
theorem dX0_rules_118 : decode cX0_rules 118 = .ok (.iconst 0, 1) := dk_3 (dk_at dksX0_rules_4 22 rfl rfl)
theorem dX0_rules_119 : decode cX0_rules 119 = .ok (.putfield 293, 3) := dk_181 1 37 (dk_at dksX0_rules_5 0 rfl rfl)
theorem dX0_rules_122 : decode cX0_rules 122 = .ok (.iload_n 2, 1) := dk_28 (dk_at dksX0_rules_5 3 rfl rfl)
theorem dX0_rules_123 : decode cX0_rules 123 = .ok (.ireturn, 1) := dk_172 (dk_at dksX0_rules_5 4 rfl rfl)
theorem dX0_rules_124 : decode cX0_rules 124 = .ok (.astore_n 2, 1) := dk_77 (dk_at dksX0_rules_5 5 rfl rfl)
theorem dX0_rules_125 : decode cX0_rules 125 = .ok (.aload_n 0, 1) := dk_42 (dk_at dksX0_rules_5 6 rfl rfl)
theorem dX0_rules_126 : decode cX0_rules 126 = .ok (.aload_n 2, 1) := dk_44 (dk_at dksX0_rules_5 7 rfl rfl)
theorem dX0_rules_127 : decode cX0_rules 127 = .ok (.getfield 284, 3) := dk_180 1 28 (dk_at dksX0_rules_5 8 rfl rfl)
theorem dX0_rules_130 : decode cX0_rules 130 = .ok (.putfield 312, 3) := dk_181 1 56 (dk_at dksX0_rules_5 11 rfl rfl)
theorem dX0_rules_133 : decode cX0_rules 133 = .ok (.aload_n 0, 1) := dk_42 (dk_at dksX0_rules_5 14 rfl rfl)
theorem dX0_rules_134 : decode cX0_rules 134 = .ok (.aload_n 2, 1) := dk_44 (dk_at dksX0_rules_5 15 rfl rfl)
theorem dX0_rules_135 : decode cX0_rules 135 = .ok (.getfield 287, 3) := dk_180 1 31 (dk_at dksX0_rules_5 16 rfl rfl)
theorem dX0_rules_138 : decode cX0_rules 138 = .ok (.putfield 36, 3) := dk_181 0 36 (dk_at dksX0_rules_5 19 rfl rfl)
theorem dX0_rules_141 : decode cX0_rules 141 = .ok (.iconst (-1), 1) := dk_2 (dk_at dksX0_rules_5 22 rfl rfl)
theorem dX0_rules_142 : decode cX0_rules 142 = .ok (.istore_n 3, 1) := dk_62 (dk_at dksX0_rules_5 23 rfl rfl)
theorem dX0_rules_143 : decode cX0_rules 143 = .ok (.aload_n 0, 1) := dk_42 (dk_at dksX0_rules_6 0 rfl rfl)
theorem dX0_rules_144 : decode cX0_rules 144 = .ok (.iconst 0, 1) := dk_3 (dk_at dksX0_rules_6 1 rfl rfl)
theorem dX0_rules_145 : decode cX0_rules 145 = .ok (.putfield 293, 3) := dk_181 1 37 (dk_at dksX0_rules_6 2 rfl rfl)
theorem dX0_rules_148 : decode cX0_rules 148 = .ok (.iload_n 3, 1) := dk_29 (dk_at dksX0_rules_6 5 rfl rfl)
theorem dX0_rules_149 : decode cX0_rules 149 = .ok (.ireturn, 1) := dk_172 (dk_at dksX0_rules_6 6 rfl rfl)
theorem dX0_rules_150 : decode cX0_rules 150 = .ok (.astore 4, 2) := dk_58 4 (dk_at dksX0_rules_6 7 rfl rfl)
theorem dX0_rules_152 : decode cX0_rules 152 = .ok (.aload_n 0, 1) := dk_42 (dk_at dksX0_rules_6 9 rfl rfl)
theorem dX0_rules_153 : decode cX0_rules 153 = .ok (.iconst 0, 1) := dk_3 (dk_at dksX0_rules_6 10 rfl rfl)
theorem dX0_rules_154 : decode cX0_rules 154 = .ok (.putfield 293, 3) := dk_181 1 37 (dk_at dksX0_rules_6 11 rfl rfl)
theorem dX0_rules_157 : decode cX0_rules 157 = .ok (.aload 4, 2) := dk_25 4 (dk_at dksX0_rules_6 14 rfl rfl)
theorem dX0_rules_159 : decode cX0_rules 159 = .ok (.athrow, 1) := dk_191 (dk_at dksX0_rules_6 16 rfl rfl)
abbrev cX0_isRules : ByteArray := prog_1_method_20_code
def yX0_isRules : MethodName := ⟨RX0, "isRules", "(I)Z"⟩
def dkwX0_isRules_0 : List UInt8 := [26, 153, 0, 8, 26, 4, 160, 0, 7, 4, 167, 0, 4, 3, 172]
abbrev dktX0_isRules_0 : List UInt8 := dkwX0_isRules_0 ++ []
theorem dksX0_isRules_0 : cX0_isRules.data.toList.drop 0 = dktX0_isRules_0 := by decide +kernel
theorem dX0_isRules_0 : decode cX0_isRules 0 = .ok (.iload_n 0, 1) := dk_26 (dk_at dksX0_isRules_0 0 rfl rfl)
theorem dX0_isRules_1 : decode cX0_isRules 1 = .ok (.ifCond .eq 8, 3) := dk_153 0 8 (dk_at dksX0_isRules_0 1 rfl rfl)
theorem dX0_isRules_4 : decode cX0_isRules 4 = .ok (.iload_n 0, 1) := dk_26 (dk_at dksX0_isRules_0 4 rfl rfl)
theorem dX0_isRules_5 : decode cX0_isRules 5 = .ok (.iconst 1, 1) := dk_4 (dk_at dksX0_isRules_0 5 rfl rfl)
theorem dX0_isRules_6 : decode cX0_isRules 6 = .ok (.if_icmp .ne 7, 3) := dk_160 0 7 (dk_at dksX0_isRules_0 6 rfl rfl)
theorem dX0_isRules_9 : decode cX0_isRules 9 = .ok (.iconst 1, 1) := dk_4 (dk_at dksX0_isRules_0 9 rfl rfl)
theorem dX0_isRules_10 : decode cX0_isRules 10 = .ok (.goto 4, 3) := dk_167 0 4 (dk_at dksX0_isRules_0 10 rfl rfl)
theorem dX0_isRules_13 : decode cX0_isRules 13 = .ok (.iconst 0, 1) := dk_3 (dk_at dksX0_isRules_0 13 rfl rfl)
theorem dX0_isRules_14 : decode cX0_isRules 14 = .ok (.ireturn, 1) := dk_172 (dk_at dksX0_isRules_0 14 rfl rfl)
abbrev cX0_refused : ByteArray := prog_1_method_19_code
def yX0_refused : MethodName := ⟨RX0, "refused", "(II)LCliffHoney$Fault;"⟩
def dkwX0_refused_0 : List UInt8 := [42, 180, 0, 42, 27, 181, 1, 28, 42, 180, 0, 42, 28, 181, 1, 31, 42, 180, 0, 42, 176]
abbrev dktX0_refused_0 : List UInt8 := dkwX0_refused_0 ++ []
theorem dksX0_refused_0 : cX0_refused.data.toList.drop 0 = dktX0_refused_0 := by decide +kernel
theorem dX0_refused_0 : decode cX0_refused 0 = .ok (.aload_n 0, 1) := dk_42 (dk_at dksX0_refused_0 0 rfl rfl)
theorem dX0_refused_1 : decode cX0_refused 1 = .ok (.getfield 42, 3) := dk_180 0 42 (dk_at dksX0_refused_0 1 rfl rfl)
theorem dX0_refused_4 : decode cX0_refused 4 = .ok (.iload_n 1, 1) := dk_27 (dk_at dksX0_refused_0 4 rfl rfl)
theorem dX0_refused_5 : decode cX0_refused 5 = .ok (.putfield 284, 3) := dk_181 1 28 (dk_at dksX0_refused_0 5 rfl rfl)
theorem dX0_refused_8 : decode cX0_refused 8 = .ok (.aload_n 0, 1) := dk_42 (dk_at dksX0_refused_0 8 rfl rfl)
theorem dX0_refused_9 : decode cX0_refused 9 = .ok (.getfield 42, 3) := dk_180 0 42 (dk_at dksX0_refused_0 9 rfl rfl)
theorem dX0_refused_12 : decode cX0_refused 12 = .ok (.iload_n 2, 1) := dk_28 (dk_at dksX0_refused_0 12 rfl rfl)
theorem dX0_refused_13 : decode cX0_refused 13 = .ok (.putfield 287, 3) := dk_181 1 31 (dk_at dksX0_refused_0 13 rfl rfl)
theorem dX0_refused_16 : decode cX0_refused 16 = .ok (.aload_n 0, 1) := dk_42 (dk_at dksX0_refused_0 16 rfl rfl)
theorem dX0_refused_17 : decode cX0_refused 17 = .ok (.getfield 42, 3) := dk_180 0 42 (dk_at dksX0_refused_0 17 rfl rfl)
theorem dX0_refused_20 : decode cX0_refused 20 = .ok (.areturn, 1) := dk_176 (dk_at dksX0_refused_0 20 rfl rfl)
abbrev cX0_fault : ByteArray := prog_1_method_22_code
def yX0_fault : MethodName := ⟨RX0, "fault", "(I)I"⟩
def dkwX0_fault_1 : List UInt8 := [172]
abbrev dktX0_fault_1 : List UInt8 := dkwX0_fault_1 ++ []
def dkwX0_fault_0 : List UInt8 := [27, 154, 0, 10, 42, 180, 1, 56, 167, 0, 16, 27, 4, 160, 0, 10, 42, 180, 0, 36, 167, 0, 4, 2]
abbrev dktX0_fault_0 : List UInt8 := dkwX0_fault_0 ++ dktX0_fault_1
theorem dksX0_fault_0 : cX0_fault.data.toList.drop 0 = dktX0_fault_0 := by decide +kernel
theorem dksX0_fault_1 : cX0_fault.data.toList.drop 24 = dktX0_fault_1 := dk_seg dksX0_fault_0 24 rfl rfl
theorem dX0_fault_0 : decode cX0_fault 0 = .ok (.iload_n 1, 1) := dk_27 (dk_at dksX0_fault_0 0 rfl rfl)
theorem dX0_fault_1 : decode cX0_fault 1 = .ok (.ifCond .ne 10, 3) := dk_154 0 10 (dk_at dksX0_fault_0 1 rfl rfl)
theorem dX0_fault_4 : decode cX0_fault 4 = .ok (.aload_n 0, 1) := dk_42 (dk_at dksX0_fault_0 4 rfl rfl)
theorem dX0_fault_5 : decode cX0_fault 5 = .ok (.getfield 312, 3) := dk_180 1 56 (dk_at dksX0_fault_0 5 rfl rfl)
theorem dX0_fault_8 : decode cX0_fault 8 = .ok (.goto 16, 3) := dk_167 0 16 (dk_at dksX0_fault_0 8 rfl rfl)
theorem dX0_fault_11 : decode cX0_fault 11 = .ok (.iload_n 1, 1) := dk_27 (dk_at dksX0_fault_0 11 rfl rfl)
theorem dX0_fault_12 : decode cX0_fault 12 = .ok (.iconst 1, 1) := dk_4 (dk_at dksX0_fault_0 12 rfl rfl)
theorem dX0_fault_13 : decode cX0_fault 13 = .ok (.if_icmp .ne 10, 3) := dk_160 0 10 (dk_at dksX0_fault_0 13 rfl rfl)
theorem dX0_fault_16 : decode cX0_fault 16 = .ok (.aload_n 0, 1) := dk_42 (dk_at dksX0_fault_0 16 rfl rfl)
theorem dX0_fault_17 : decode cX0_fault 17 = .ok (.getfield 36, 3) := dk_180 0 36 (dk_at dksX0_fault_0 17 rfl rfl)
theorem dX0_fault_20 : decode cX0_fault 20 = .ok (.goto 4, 3) := dk_167 0 4 (dk_at dksX0_fault_0 20 rfl rfl)
theorem dX0_fault_23 : decode cX0_fault 23 = .ok (.iconst (-1), 1) := dk_2 (dk_at dksX0_fault_0 23 rfl rfl)
theorem dX0_fault_24 : decode cX0_fault 24 = .ok (.ireturn, 1) := dk_172 (dk_at dksX0_fault_1 0 rfl rfl)
abbrev cX0_feed : ByteArray := prog_1_method_24_code
def yX0_feed : MethodName := ⟨RX0, "feed", "(IIIII)I"⟩
def dkwX0_feed_2 : List UInt8 := [172]
abbrev dktX0_feed_2 : List UInt8 := dkwX0_feed_2 ++ []
def dkwX0_feed_1 : List UInt8 := [182, 1, 59, 42, 29, 182, 1, 59, 42, 21, 4, 182, 1, 59, 42, 21, 5, 182, 1, 59, 42, 180, 1, 37]
abbrev dktX0_feed_1 : List UInt8 := dkwX0_feed_1 ++ dktX0_feed_2
def dkwX0_feed_0 : List UInt8 := [42, 180, 1, 37, 16, 20, 96, 17, 2, 88, 164, 0, 5, 2, 172, 42, 27, 182, 1, 59, 42, 28]
abbrev dktX0_feed_0 : List UInt8 := dkwX0_feed_0 ++ dktX0_feed_1
theorem dksX0_feed_0 : cX0_feed.data.toList.drop 0 = dktX0_feed_0 := by decide +kernel
theorem dksX0_feed_1 : cX0_feed.data.toList.drop 22 = dktX0_feed_1 := dk_seg dksX0_feed_0 22 rfl rfl
theorem dksX0_feed_2 : cX0_feed.data.toList.drop 46 = dktX0_feed_2 := dk_seg dksX0_feed_1 24 rfl rfl
theorem dX0_feed_0 : decode cX0_feed 0 = .ok (.aload_n 0, 1) := dk_42 (dk_at dksX0_feed_0 0 rfl rfl)
theorem dX0_feed_1 : decode cX0_feed 1 = .ok (.getfield 293, 3) := dk_180 1 37 (dk_at dksX0_feed_0 1 rfl rfl)
theorem dX0_feed_4 : decode cX0_feed 4 = .ok (.bipush 20, 2) := dk_16 20 (dk_at dksX0_feed_0 4 rfl rfl)
theorem dX0_feed_6 : decode cX0_feed 6 = .ok (.iadd, 1) := dk_96 (dk_at dksX0_feed_0 6 rfl rfl)
theorem dX0_feed_7 : decode cX0_feed 7 = .ok (.sipush 600, 3) := dk_17 2 88 (dk_at dksX0_feed_0 7 rfl rfl)
theorem dX0_feed_10 : decode cX0_feed 10 = .ok (.if_icmp .le 5, 3) := dk_164 0 5 (dk_at dksX0_feed_0 10 rfl rfl)
theorem dX0_feed_13 : decode cX0_feed 13 = .ok (.iconst (-1), 1) := dk_2 (dk_at dksX0_feed_0 13 rfl rfl)
theorem dX0_feed_14 : decode cX0_feed 14 = .ok (.ireturn, 1) := dk_172 (dk_at dksX0_feed_0 14 rfl rfl)
theorem dX0_feed_15 : decode cX0_feed 15 = .ok (.aload_n 0, 1) := dk_42 (dk_at dksX0_feed_0 15 rfl rfl)
theorem dX0_feed_16 : decode cX0_feed 16 = .ok (.iload_n 1, 1) := dk_27 (dk_at dksX0_feed_0 16 rfl rfl)
theorem dX0_feed_17 : decode cX0_feed 17 = .ok (.invokevirtual 315, 3) := dk_182 1 59 (dk_at dksX0_feed_0 17 rfl rfl)
theorem dX0_feed_20 : decode cX0_feed 20 = .ok (.aload_n 0, 1) := dk_42 (dk_at dksX0_feed_0 20 rfl rfl)
theorem dX0_feed_21 : decode cX0_feed 21 = .ok (.iload_n 2, 1) := dk_28 (dk_at dksX0_feed_0 21 rfl rfl)
theorem dX0_feed_22 : decode cX0_feed 22 = .ok (.invokevirtual 315, 3) := dk_182 1 59 (dk_at dksX0_feed_1 0 rfl rfl)
theorem dX0_feed_25 : decode cX0_feed 25 = .ok (.aload_n 0, 1) := dk_42 (dk_at dksX0_feed_1 3 rfl rfl)
theorem dX0_feed_26 : decode cX0_feed 26 = .ok (.iload_n 3, 1) := dk_29 (dk_at dksX0_feed_1 4 rfl rfl)
theorem dX0_feed_27 : decode cX0_feed 27 = .ok (.invokevirtual 315, 3) := dk_182 1 59 (dk_at dksX0_feed_1 5 rfl rfl)
theorem dX0_feed_30 : decode cX0_feed 30 = .ok (.aload_n 0, 1) := dk_42 (dk_at dksX0_feed_1 8 rfl rfl)
theorem dX0_feed_31 : decode cX0_feed 31 = .ok (.iload 4, 2) := dk_21 4 (dk_at dksX0_feed_1 9 rfl rfl)
theorem dX0_feed_33 : decode cX0_feed 33 = .ok (.invokevirtual 315, 3) := dk_182 1 59 (dk_at dksX0_feed_1 11 rfl rfl)
theorem dX0_feed_36 : decode cX0_feed 36 = .ok (.aload_n 0, 1) := dk_42 (dk_at dksX0_feed_1 14 rfl rfl)
theorem dX0_feed_37 : decode cX0_feed 37 = .ok (.iload 5, 2) := dk_21 5 (dk_at dksX0_feed_1 15 rfl rfl)
theorem dX0_feed_39 : decode cX0_feed 39 = .ok (.invokevirtual 315, 3) := dk_182 1 59 (dk_at dksX0_feed_1 17 rfl rfl)
theorem dX0_feed_42 : decode cX0_feed 42 = .ok (.aload_n 0, 1) := dk_42 (dk_at dksX0_feed_1 20 rfl rfl)
theorem dX0_feed_43 : decode cX0_feed 43 = .ok (.getfield 293, 3) := dk_180 1 37 (dk_at dksX0_feed_1 21 rfl rfl)
theorem dX0_feed_46 : decode cX0_feed 46 = .ok (.ireturn, 1) := dk_172 (dk_at dksX0_feed_2 0 rfl rfl)
abbrev cX0_puts : ByteArray := prog_1_method_23_code
def yX0_puts : MethodName := ⟨RX0, "puts", "(I)V"⟩
def dkwX0_puts_1 : List UInt8 := [180, 1, 37, 4, 96, 181, 1, 37, 132, 2, 248, 167, 255, 226, 177]
abbrev dktX0_puts_1 : List UInt8 := dkwX0_puts_1 ++ []
def dkwX0_puts_0 : List UInt8 := [16, 24, 61, 28, 155, 0, 32, 42, 180, 0, 32, 42, 180, 1, 37, 27, 28, 122, 145, 84, 42, 89]
abbrev dktX0_puts_0 : List UInt8 := dkwX0_puts_0 ++ dktX0_puts_1
theorem dksX0_puts_0 : cX0_puts.data.toList.drop 0 = dktX0_puts_0 := by decide +kernel
theorem dksX0_puts_1 : cX0_puts.data.toList.drop 22 = dktX0_puts_1 := dk_seg dksX0_puts_0 22 rfl rfl
theorem dX0_puts_0 : decode cX0_puts 0 = .ok (.bipush 24, 2) := dk_16 24 (dk_at dksX0_puts_0 0 rfl rfl)
theorem dX0_puts_2 : decode cX0_puts 2 = .ok (.istore_n 2, 1) := dk_61 (dk_at dksX0_puts_0 2 rfl rfl)
theorem dX0_puts_3 : decode cX0_puts 3 = .ok (.iload_n 2, 1) := dk_28 (dk_at dksX0_puts_0 3 rfl rfl)
theorem dX0_puts_4 : decode cX0_puts 4 = .ok (.ifCond .lt 32, 3) := dk_155 0 32 (dk_at dksX0_puts_0 4 rfl rfl)
theorem dX0_puts_7 : decode cX0_puts 7 = .ok (.aload_n 0, 1) := dk_42 (dk_at dksX0_puts_0 7 rfl rfl)
theorem dX0_puts_8 : decode cX0_puts 8 = .ok (.getfield 32, 3) := dk_180 0 32 (dk_at dksX0_puts_0 8 rfl rfl)
theorem dX0_puts_11 : decode cX0_puts 11 = .ok (.aload_n 0, 1) := dk_42 (dk_at dksX0_puts_0 11 rfl rfl)
theorem dX0_puts_12 : decode cX0_puts 12 = .ok (.getfield 293, 3) := dk_180 1 37 (dk_at dksX0_puts_0 12 rfl rfl)
theorem dX0_puts_15 : decode cX0_puts 15 = .ok (.iload_n 1, 1) := dk_27 (dk_at dksX0_puts_0 15 rfl rfl)
theorem dX0_puts_16 : decode cX0_puts 16 = .ok (.iload_n 2, 1) := dk_28 (dk_at dksX0_puts_0 16 rfl rfl)
theorem dX0_puts_17 : decode cX0_puts 17 = .ok (.ishr, 1) := dk_122 (dk_at dksX0_puts_0 17 rfl rfl)
theorem dX0_puts_18 : decode cX0_puts 18 = .ok (.i2b, 1) := dk_145 (dk_at dksX0_puts_0 18 rfl rfl)
theorem dX0_puts_19 : decode cX0_puts 19 = .ok (.bastore, 1) := dk_84 (dk_at dksX0_puts_0 19 rfl rfl)
theorem dX0_puts_20 : decode cX0_puts 20 = .ok (.aload_n 0, 1) := dk_42 (dk_at dksX0_puts_0 20 rfl rfl)
theorem dX0_puts_21 : decode cX0_puts 21 = .ok (.dup, 1) := dk_89 (dk_at dksX0_puts_0 21 rfl rfl)
theorem dX0_puts_22 : decode cX0_puts 22 = .ok (.getfield 293, 3) := dk_180 1 37 (dk_at dksX0_puts_1 0 rfl rfl)
theorem dX0_puts_25 : decode cX0_puts 25 = .ok (.iconst 1, 1) := dk_4 (dk_at dksX0_puts_1 3 rfl rfl)
theorem dX0_puts_26 : decode cX0_puts 26 = .ok (.iadd, 1) := dk_96 (dk_at dksX0_puts_1 4 rfl rfl)
theorem dX0_puts_27 : decode cX0_puts 27 = .ok (.putfield 293, 3) := dk_181 1 37 (dk_at dksX0_puts_1 5 rfl rfl)
theorem dX0_puts_30 : decode cX0_puts 30 = .ok (.iinc 2 (-8), 3) := dk_132 2 248 (dk_at dksX0_puts_1 8 rfl rfl)
theorem dX0_puts_33 : decode cX0_puts 33 = .ok (.goto (-30), 3) := dk_167 255 226 (dk_at dksX0_puts_1 11 rfl rfl)
theorem dX0_puts_36 : decode cX0_puts 36 = .ok (.return_, 1) := dk_177 (dk_at dksX0_puts_1 14 rfl rfl)
abbrev cX0_end : ByteArray := prog_1_method_25_code
def yX0_end : MethodName := ⟨RX0, "end", "(I)Z"⟩
def dkwX0_end_0 : List UInt8 := [27, 155, 0, 11, 27, 42, 180, 1, 37, 164, 0, 5, 3, 172, 42, 27, 181, 1, 37, 4, 172]
abbrev dktX0_end_0 : List UInt8 := dkwX0_end_0 ++ []
theorem dksX0_end_0 : cX0_end.data.toList.drop 0 = dktX0_end_0 := by decide +kernel
theorem dX0_end_0 : decode cX0_end 0 = .ok (.iload_n 1, 1) := dk_27 (dk_at dksX0_end_0 0 rfl rfl)
theorem dX0_end_1 : decode cX0_end 1 = .ok (.ifCond .lt 11, 3) := dk_155 0 11 (dk_at dksX0_end_0 1 rfl rfl)
theorem dX0_end_4 : decode cX0_end 4 = .ok (.iload_n 1, 1) := dk_27 (dk_at dksX0_end_0 4 rfl rfl)
theorem dX0_end_5 : decode cX0_end 5 = .ok (.aload_n 0, 1) := dk_42 (dk_at dksX0_end_0 5 rfl rfl)
theorem dX0_end_6 : decode cX0_end 6 = .ok (.getfield 293, 3) := dk_180 1 37 (dk_at dksX0_end_0 6 rfl rfl)
theorem dX0_end_9 : decode cX0_end 9 = .ok (.if_icmp .le 5, 3) := dk_164 0 5 (dk_at dksX0_end_0 9 rfl rfl)
theorem dX0_end_12 : decode cX0_end 12 = .ok (.iconst 0, 1) := dk_3 (dk_at dksX0_end_0 12 rfl rfl)
theorem dX0_end_13 : decode cX0_end 13 = .ok (.ireturn, 1) := dk_172 (dk_at dksX0_end_0 13 rfl rfl)
theorem dX0_end_14 : decode cX0_end 14 = .ok (.aload_n 0, 1) := dk_42 (dk_at dksX0_end_0 14 rfl rfl)
theorem dX0_end_15 : decode cX0_end 15 = .ok (.iload_n 1, 1) := dk_27 (dk_at dksX0_end_0 15 rfl rfl)
theorem dX0_end_16 : decode cX0_end 16 = .ok (.putfield 293, 3) := dk_181 1 37 (dk_at dksX0_end_0 16 rfl rfl)
theorem dX0_end_19 : decode cX0_end 19 = .ok (.iconst 1, 1) := dk_4 (dk_at dksX0_end_0 19 rfl rfl)
theorem dX0_end_20 : decode cX0_end 20 = .ok (.ireturn, 1) := dk_172 (dk_at dksX0_end_0 20 rfl rfl)
abbrev cX0_ruled : ByteArray := prog_1_method_26_code
def yX0_ruled : MethodName := ⟨RX0, "ruled", "(II)I"⟩
def dkwX0_ruled_4 : List UInt8 := [6, 100, 46, 167, 0, 4, 2, 172]
abbrev dktX0_ruled_4 : List UInt8 := dkwX0_ruled_4 ++ []
def dkwX0_ruled_3 : List UInt8 := [180, 1, 65, 172, 28, 6, 16, 6, 184, 0, 199, 153, 0, 19, 42, 180, 0, 117, 27, 50, 180, 1, 67, 28]
abbrev dktX0_ruled_3 : List UInt8 := dkwX0_ruled_3 ++ dktX0_ruled_4
def dkwX0_ruled_2 : List UInt8 := [42, 180, 0, 108, 27, 46, 172, 42, 180, 0, 117, 27, 50, 180, 1, 63, 172, 42, 180, 0, 117, 27, 50]
abbrev dktX0_ruled_2 : List UInt8 := dkwX0_ruled_2 ++ dktX0_ruled_3
def dkwX0_ruled_1 : List UInt8 := [170, 0, 0, 0, 0, 53, 0, 0, 0, 0, 0, 0, 0, 2, 0, 0, 0, 26, 0, 0, 0, 33, 0, 0, 0, 43]
abbrev dktX0_ruled_1 : List UInt8 := dkwX0_ruled_1 ++ dktX0_ruled_2
def dkwX0_ruled_0 : List UInt8 := [27, 184, 1, 34, 154, 0, 5, 2, 172, 28]
abbrev dktX0_ruled_0 : List UInt8 := dkwX0_ruled_0 ++ dktX0_ruled_1
theorem dksX0_ruled_0 : cX0_ruled.data.toList.drop 0 = dktX0_ruled_0 := by decide +kernel
theorem dksX0_ruled_1 : cX0_ruled.data.toList.drop 10 = dktX0_ruled_1 := dk_seg dksX0_ruled_0 10 rfl rfl
theorem dksX0_ruled_2 : cX0_ruled.data.toList.drop 36 = dktX0_ruled_2 := dk_seg dksX0_ruled_1 26 rfl rfl
theorem dksX0_ruled_3 : cX0_ruled.data.toList.drop 59 = dktX0_ruled_3 := dk_seg dksX0_ruled_2 23 rfl rfl
theorem dksX0_ruled_4 : cX0_ruled.data.toList.drop 83 = dktX0_ruled_4 := dk_seg dksX0_ruled_3 24 rfl rfl
theorem dX0_ruled_0 : decode cX0_ruled 0 = .ok (.iload_n 1, 1) := dk_27 (dk_at dksX0_ruled_0 0 rfl rfl)
theorem dX0_ruled_1 : decode cX0_ruled 1 = .ok (.invokestatic 290, 3) := dk_184 1 34 (dk_at dksX0_ruled_0 1 rfl rfl)
theorem dX0_ruled_4 : decode cX0_ruled 4 = .ok (.ifCond .ne 5, 3) := dk_154 0 5 (dk_at dksX0_ruled_0 4 rfl rfl)
theorem dX0_ruled_7 : decode cX0_ruled 7 = .ok (.iconst (-1), 1) := dk_2 (dk_at dksX0_ruled_0 7 rfl rfl)
theorem dX0_ruled_8 : decode cX0_ruled 8 = .ok (.ireturn, 1) := dk_172 (dk_at dksX0_ruled_0 8 rfl rfl)
theorem dX0_ruled_9 : decode cX0_ruled 9 = .ok (.iload_n 2, 1) := dk_28 (dk_at dksX0_ruled_0 9 rfl rfl)
theorem dX0_ruled_10 : decode cX0_ruled 10 = .ok (.tableswitch 53 0 2 #[26, 33, 43], 26) := by decide +kernel
theorem dX0_ruled_36 : decode cX0_ruled 36 = .ok (.aload_n 0, 1) := dk_42 (dk_at dksX0_ruled_2 0 rfl rfl)
theorem dX0_ruled_37 : decode cX0_ruled 37 = .ok (.getfield 108, 3) := dk_180 0 108 (dk_at dksX0_ruled_2 1 rfl rfl)
theorem dX0_ruled_40 : decode cX0_ruled 40 = .ok (.iload_n 1, 1) := dk_27 (dk_at dksX0_ruled_2 4 rfl rfl)
theorem dX0_ruled_41 : decode cX0_ruled 41 = .ok (.iaload, 1) := dk_46 (dk_at dksX0_ruled_2 5 rfl rfl)
theorem dX0_ruled_42 : decode cX0_ruled 42 = .ok (.ireturn, 1) := dk_172 (dk_at dksX0_ruled_2 6 rfl rfl)
theorem dX0_ruled_43 : decode cX0_ruled 43 = .ok (.aload_n 0, 1) := dk_42 (dk_at dksX0_ruled_2 7 rfl rfl)
theorem dX0_ruled_44 : decode cX0_ruled 44 = .ok (.getfield 117, 3) := dk_180 0 117 (dk_at dksX0_ruled_2 8 rfl rfl)
theorem dX0_ruled_47 : decode cX0_ruled 47 = .ok (.iload_n 1, 1) := dk_27 (dk_at dksX0_ruled_2 11 rfl rfl)
theorem dX0_ruled_48 : decode cX0_ruled 48 = .ok (.aaload, 1) := dk_50 (dk_at dksX0_ruled_2 12 rfl rfl)
theorem dX0_ruled_49 : decode cX0_ruled 49 = .ok (.getfield 319, 3) := dk_180 1 63 (dk_at dksX0_ruled_2 13 rfl rfl)
theorem dX0_ruled_52 : decode cX0_ruled 52 = .ok (.ireturn, 1) := dk_172 (dk_at dksX0_ruled_2 16 rfl rfl)
theorem dX0_ruled_53 : decode cX0_ruled 53 = .ok (.aload_n 0, 1) := dk_42 (dk_at dksX0_ruled_2 17 rfl rfl)
theorem dX0_ruled_54 : decode cX0_ruled 54 = .ok (.getfield 117, 3) := dk_180 0 117 (dk_at dksX0_ruled_2 18 rfl rfl)
theorem dX0_ruled_57 : decode cX0_ruled 57 = .ok (.iload_n 1, 1) := dk_27 (dk_at dksX0_ruled_2 21 rfl rfl)
theorem dX0_ruled_58 : decode cX0_ruled 58 = .ok (.aaload, 1) := dk_50 (dk_at dksX0_ruled_2 22 rfl rfl)
theorem dX0_ruled_59 : decode cX0_ruled 59 = .ok (.getfield 321, 3) := dk_180 1 65 (dk_at dksX0_ruled_3 0 rfl rfl)
theorem dX0_ruled_62 : decode cX0_ruled 62 = .ok (.ireturn, 1) := dk_172 (dk_at dksX0_ruled_3 3 rfl rfl)
theorem dX0_ruled_63 : decode cX0_ruled 63 = .ok (.iload_n 2, 1) := dk_28 (dk_at dksX0_ruled_3 4 rfl rfl)
theorem dX0_ruled_64 : decode cX0_ruled 64 = .ok (.iconst 3, 1) := dk_6 (dk_at dksX0_ruled_3 5 rfl rfl)
theorem dX0_ruled_65 : decode cX0_ruled 65 = .ok (.bipush 6, 2) := dk_16 6 (dk_at dksX0_ruled_3 6 rfl rfl)
theorem dX0_ruled_67 : decode cX0_ruled 67 = .ok (.invokestatic 199, 3) := dk_184 0 199 (dk_at dksX0_ruled_3 8 rfl rfl)
theorem dX0_ruled_70 : decode cX0_ruled 70 = .ok (.ifCond .eq 19, 3) := dk_153 0 19 (dk_at dksX0_ruled_3 11 rfl rfl)
theorem dX0_ruled_73 : decode cX0_ruled 73 = .ok (.aload_n 0, 1) := dk_42 (dk_at dksX0_ruled_3 14 rfl rfl)
theorem dX0_ruled_74 : decode cX0_ruled 74 = .ok (.getfield 117, 3) := dk_180 0 117 (dk_at dksX0_ruled_3 15 rfl rfl)
theorem dX0_ruled_77 : decode cX0_ruled 77 = .ok (.iload_n 1, 1) := dk_27 (dk_at dksX0_ruled_3 18 rfl rfl)
theorem dX0_ruled_78 : decode cX0_ruled 78 = .ok (.aaload, 1) := dk_50 (dk_at dksX0_ruled_3 19 rfl rfl)
theorem dX0_ruled_79 : decode cX0_ruled 79 = .ok (.getfield 323, 3) := dk_180 1 67 (dk_at dksX0_ruled_3 20 rfl rfl)
theorem dX0_ruled_82 : decode cX0_ruled 82 = .ok (.iload_n 2, 1) := dk_28 (dk_at dksX0_ruled_3 23 rfl rfl)
theorem dX0_ruled_83 : decode cX0_ruled 83 = .ok (.iconst 3, 1) := dk_6 (dk_at dksX0_ruled_4 0 rfl rfl)
theorem dX0_ruled_84 : decode cX0_ruled 84 = .ok (.isub, 1) := dk_100 (dk_at dksX0_ruled_4 1 rfl rfl)
theorem dX0_ruled_85 : decode cX0_ruled 85 = .ok (.iaload, 1) := dk_46 (dk_at dksX0_ruled_4 2 rfl rfl)
theorem dX0_ruled_86 : decode cX0_ruled 86 = .ok (.goto 4, 3) := dk_167 0 4 (dk_at dksX0_ruled_4 3 rfl rfl)
theorem dX0_ruled_89 : decode cX0_ruled 89 = .ok (.iconst (-1), 1) := dk_2 (dk_at dksX0_ruled_4 6 rfl rfl)
theorem dX0_ruled_90 : decode cX0_ruled 90 = .ok (.ireturn, 1) := dk_172 (dk_at dksX0_ruled_4 7 rfl rfl)
abbrev cX0_asked : ByteArray := prog_1_method_29_code
def yX0_asked : MethodName := ⟨RX0, "asked", "(III)I"⟩
def dkwX0_asked_3 : List UInt8 := [25, 4, 180, 1, 70, 167, 0, 14, 42, 180, 0, 11, 28, 50, 25, 4, 184, 1, 84, 172]
abbrev dktX0_asked_3 : List UInt8 := dkwX0_asked_3 ++ []
def dkwX0_asked_2 : List UInt8 := [154, 0, 19, 25, 4, 180, 1, 73, 153, 0, 7, 4, 167, 0, 31, 3, 167, 0, 27, 29, 4, 160, 0, 11]
abbrev dktX0_asked_2 : List UInt8 := dkwX0_asked_2 ++ dktX0_asked_3
def dkwX0_asked_1 : List UInt8 := [2, 172, 42, 27, 42, 180, 0, 11, 28, 50, 42, 180, 0, 193, 42, 180, 1, 7, 182, 1, 80, 58, 4, 29]
abbrev dktX0_asked_1 : List UInt8 := dkwX0_asked_1 ++ dktX0_asked_2
def dkwX0_asked_0 : List UInt8 := [27, 184, 1, 34, 153, 0, 20, 42, 28, 182, 0, 214, 153, 0, 12, 29, 3, 5, 184, 0, 199, 154, 0, 5]
abbrev dktX0_asked_0 : List UInt8 := dkwX0_asked_0 ++ dktX0_asked_1
theorem dksX0_asked_0 : cX0_asked.data.toList.drop 0 = dktX0_asked_0 := by decide +kernel
theorem dksX0_asked_1 : cX0_asked.data.toList.drop 24 = dktX0_asked_1 := dk_seg dksX0_asked_0 24 rfl rfl
theorem dksX0_asked_2 : cX0_asked.data.toList.drop 48 = dktX0_asked_2 := dk_seg dksX0_asked_1 24 rfl rfl
theorem dksX0_asked_3 : cX0_asked.data.toList.drop 72 = dktX0_asked_3 := dk_seg dksX0_asked_2 24 rfl rfl
theorem dX0_asked_0 : decode cX0_asked 0 = .ok (.iload_n 1, 1) := dk_27 (dk_at dksX0_asked_0 0 rfl rfl)
theorem dX0_asked_1 : decode cX0_asked 1 = .ok (.invokestatic 290, 3) := dk_184 1 34 (dk_at dksX0_asked_0 1 rfl rfl)
theorem dX0_asked_4 : decode cX0_asked 4 = .ok (.ifCond .eq 20, 3) := dk_153 0 20 (dk_at dksX0_asked_0 4 rfl rfl)
theorem dX0_asked_7 : decode cX0_asked 7 = .ok (.aload_n 0, 1) := dk_42 (dk_at dksX0_asked_0 7 rfl rfl)
theorem dX0_asked_8 : decode cX0_asked 8 = .ok (.iload_n 2, 1) := dk_28 (dk_at dksX0_asked_0 8 rfl rfl)
theorem dX0_asked_9 : decode cX0_asked 9 = .ok (.invokevirtual 214, 3) := dk_182 0 214 (dk_at dksX0_asked_0 9 rfl rfl)
theorem dX0_asked_12 : decode cX0_asked 12 = .ok (.ifCond .eq 12, 3) := dk_153 0 12 (dk_at dksX0_asked_0 12 rfl rfl)
theorem dX0_asked_15 : decode cX0_asked 15 = .ok (.iload_n 3, 1) := dk_29 (dk_at dksX0_asked_0 15 rfl rfl)
theorem dX0_asked_16 : decode cX0_asked 16 = .ok (.iconst 0, 1) := dk_3 (dk_at dksX0_asked_0 16 rfl rfl)
theorem dX0_asked_17 : decode cX0_asked 17 = .ok (.iconst 2, 1) := dk_5 (dk_at dksX0_asked_0 17 rfl rfl)
theorem dX0_asked_18 : decode cX0_asked 18 = .ok (.invokestatic 199, 3) := dk_184 0 199 (dk_at dksX0_asked_0 18 rfl rfl)
theorem dX0_asked_21 : decode cX0_asked 21 = .ok (.ifCond .ne 5, 3) := dk_154 0 5 (dk_at dksX0_asked_0 21 rfl rfl)
theorem dX0_asked_24 : decode cX0_asked 24 = .ok (.iconst (-1), 1) := dk_2 (dk_at dksX0_asked_1 0 rfl rfl)
theorem dX0_asked_25 : decode cX0_asked 25 = .ok (.ireturn, 1) := dk_172 (dk_at dksX0_asked_1 1 rfl rfl)
theorem dX0_asked_26 : decode cX0_asked 26 = .ok (.aload_n 0, 1) := dk_42 (dk_at dksX0_asked_1 2 rfl rfl)
theorem dX0_asked_27 : decode cX0_asked 27 = .ok (.iload_n 1, 1) := dk_27 (dk_at dksX0_asked_1 3 rfl rfl)
theorem dX0_asked_28 : decode cX0_asked 28 = .ok (.aload_n 0, 1) := dk_42 (dk_at dksX0_asked_1 4 rfl rfl)
theorem dX0_asked_29 : decode cX0_asked 29 = .ok (.getfield 11, 3) := dk_180 0 11 (dk_at dksX0_asked_1 5 rfl rfl)
theorem dX0_asked_32 : decode cX0_asked 32 = .ok (.iload_n 2, 1) := dk_28 (dk_at dksX0_asked_1 8 rfl rfl)
theorem dX0_asked_33 : decode cX0_asked 33 = .ok (.aaload, 1) := dk_50 (dk_at dksX0_asked_1 9 rfl rfl)
theorem dX0_asked_34 : decode cX0_asked 34 = .ok (.aload_n 0, 1) := dk_42 (dk_at dksX0_asked_1 10 rfl rfl)
theorem dX0_asked_35 : decode cX0_asked 35 = .ok (.getfield 193, 3) := dk_180 0 193 (dk_at dksX0_asked_1 11 rfl rfl)
theorem dX0_asked_38 : decode cX0_asked 38 = .ok (.aload_n 0, 1) := dk_42 (dk_at dksX0_asked_1 14 rfl rfl)
theorem dX0_asked_39 : decode cX0_asked 39 = .ok (.getfield 263, 3) := dk_180 1 7 (dk_at dksX0_asked_1 15 rfl rfl)
theorem dX0_asked_42 : decode cX0_asked 42 = .ok (.invokevirtual 336, 3) := dk_182 1 80 (dk_at dksX0_asked_1 18 rfl rfl)
theorem dX0_asked_45 : decode cX0_asked 45 = .ok (.astore 4, 2) := dk_58 4 (dk_at dksX0_asked_1 21 rfl rfl)
theorem dX0_asked_47 : decode cX0_asked 47 = .ok (.iload_n 3, 1) := dk_29 (dk_at dksX0_asked_1 23 rfl rfl)
theorem dX0_asked_48 : decode cX0_asked 48 = .ok (.ifCond .ne 19, 3) := dk_154 0 19 (dk_at dksX0_asked_2 0 rfl rfl)
theorem dX0_asked_51 : decode cX0_asked 51 = .ok (.aload 4, 2) := dk_25 4 (dk_at dksX0_asked_2 3 rfl rfl)
theorem dX0_asked_53 : decode cX0_asked 53 = .ok (.getfield 329, 3) := dk_180 1 73 (dk_at dksX0_asked_2 5 rfl rfl)
theorem dX0_asked_56 : decode cX0_asked 56 = .ok (.ifCond .eq 7, 3) := dk_153 0 7 (dk_at dksX0_asked_2 8 rfl rfl)
theorem dX0_asked_59 : decode cX0_asked 59 = .ok (.iconst 1, 1) := dk_4 (dk_at dksX0_asked_2 11 rfl rfl)
theorem dX0_asked_60 : decode cX0_asked 60 = .ok (.goto 31, 3) := dk_167 0 31 (dk_at dksX0_asked_2 12 rfl rfl)
theorem dX0_asked_63 : decode cX0_asked 63 = .ok (.iconst 0, 1) := dk_3 (dk_at dksX0_asked_2 15 rfl rfl)
theorem dX0_asked_64 : decode cX0_asked 64 = .ok (.goto 27, 3) := dk_167 0 27 (dk_at dksX0_asked_2 16 rfl rfl)
theorem dX0_asked_67 : decode cX0_asked 67 = .ok (.iload_n 3, 1) := dk_29 (dk_at dksX0_asked_2 19 rfl rfl)
theorem dX0_asked_68 : decode cX0_asked 68 = .ok (.iconst 1, 1) := dk_4 (dk_at dksX0_asked_2 20 rfl rfl)
theorem dX0_asked_69 : decode cX0_asked 69 = .ok (.if_icmp .ne 11, 3) := dk_160 0 11 (dk_at dksX0_asked_2 21 rfl rfl)
theorem dX0_asked_72 : decode cX0_asked 72 = .ok (.aload 4, 2) := dk_25 4 (dk_at dksX0_asked_3 0 rfl rfl)
theorem dX0_asked_74 : decode cX0_asked 74 = .ok (.getfield 326, 3) := dk_180 1 70 (dk_at dksX0_asked_3 2 rfl rfl)
theorem dX0_asked_77 : decode cX0_asked 77 = .ok (.goto 14, 3) := dk_167 0 14 (dk_at dksX0_asked_3 5 rfl rfl)
theorem dX0_asked_80 : decode cX0_asked 80 = .ok (.aload_n 0, 1) := dk_42 (dk_at dksX0_asked_3 8 rfl rfl)
theorem dX0_asked_81 : decode cX0_asked 81 = .ok (.getfield 11, 3) := dk_180 0 11 (dk_at dksX0_asked_3 9 rfl rfl)
theorem dX0_asked_84 : decode cX0_asked 84 = .ok (.iload_n 2, 1) := dk_28 (dk_at dksX0_asked_3 12 rfl rfl)
theorem dX0_asked_85 : decode cX0_asked 85 = .ok (.aaload, 1) := dk_50 (dk_at dksX0_asked_3 13 rfl rfl)
theorem dX0_asked_86 : decode cX0_asked 86 = .ok (.aload 4, 2) := dk_25 4 (dk_at dksX0_asked_3 14 rfl rfl)
theorem dX0_asked_88 : decode cX0_asked 88 = .ok (.invokestatic 340, 3) := dk_184 1 84 (dk_at dksX0_asked_3 16 rfl rfl)
theorem dX0_asked_91 : decode cX0_asked 91 = .ok (.ireturn, 1) := dk_172 (dk_at dksX0_asked_3 19 rfl rfl)
abbrev cX0_ask : ByteArray := prog_1_method_27_code
def yX0_ask : MethodName := ⟨RX0, "ask", "(ILCliffHoney$Ledge;II)LCliffHoney$Custom;"⟩
def dkwX0_ask_5 : List UInt8 := [27, 50, 21, 6, 50, 42, 180, 0, 111, 25, 5, 182, 1, 76, 132, 6, 1, 167, 255, 224, 25, 5, 176]
abbrev dktX0_ask_5 : List UInt8 := dkwX0_ask_5 ++ []
def dkwX0_ask_4 : List UInt8 := [25, 5, 3, 181, 1, 73, 3, 54, 6, 21, 6, 42, 180, 0, 108, 27, 46, 162, 0, 27, 42, 180, 0, 105]
abbrev dktX0_ask_4 : List UInt8 := dkwX0_ask_4 ++ dktX0_ask_5
def dkwX0_ask_3 : List UInt8 := [16, 6, 44, 180, 0, 220, 79, 42, 180, 0, 111, 16, 7, 29, 16, 60, 108, 79, 25, 5, 3, 181, 1, 70]
abbrev dktX0_ask_3 : List UInt8 := dkwX0_ask_3 ++ dktX0_ask_4
def dkwX0_ask_2 : List UInt8 := [180, 0, 111, 7, 44, 180, 0, 209, 79, 42, 180, 0, 111, 8, 44, 180, 0, 218, 79, 42, 180, 0, 111]
abbrev dktX0_ask_2 : List UInt8 := dkwX0_ask_2 ++ dktX0_ask_3
def dkwX0_ask_1 : List UInt8 := [184, 0, 190, 79, 42, 180, 0, 111, 5, 29, 16, 30, 112, 79, 42, 180, 0, 111, 6, 21, 4, 79, 42]
abbrev dktX0_ask_1 : List UInt8 := dkwX0_ask_1 ++ dktX0_ask_2
def dkwX0_ask_0 : List UInt8 := [42, 180, 0, 117, 27, 50, 58, 5, 42, 180, 0, 111, 3, 29, 16, 60, 112, 79, 42, 180, 0, 111, 4, 29]
abbrev dktX0_ask_0 : List UInt8 := dkwX0_ask_0 ++ dktX0_ask_1
theorem dksX0_ask_0 : cX0_ask.data.toList.drop 0 = dktX0_ask_0 := by decide +kernel
theorem dksX0_ask_1 : cX0_ask.data.toList.drop 24 = dktX0_ask_1 := dk_seg dksX0_ask_0 24 rfl rfl
theorem dksX0_ask_2 : cX0_ask.data.toList.drop 47 = dktX0_ask_2 := dk_seg dksX0_ask_1 23 rfl rfl
theorem dksX0_ask_3 : cX0_ask.data.toList.drop 70 = dktX0_ask_3 := dk_seg dksX0_ask_2 23 rfl rfl
theorem dksX0_ask_4 : cX0_ask.data.toList.drop 94 = dktX0_ask_4 := dk_seg dksX0_ask_3 24 rfl rfl
theorem dksX0_ask_5 : cX0_ask.data.toList.drop 118 = dktX0_ask_5 := dk_seg dksX0_ask_4 24 rfl rfl
theorem dX0_ask_0 : decode cX0_ask 0 = .ok (.aload_n 0, 1) := dk_42 (dk_at dksX0_ask_0 0 rfl rfl)
theorem dX0_ask_1 : decode cX0_ask 1 = .ok (.getfield 117, 3) := dk_180 0 117 (dk_at dksX0_ask_0 1 rfl rfl)
theorem dX0_ask_4 : decode cX0_ask 4 = .ok (.iload_n 1, 1) := dk_27 (dk_at dksX0_ask_0 4 rfl rfl)
theorem dX0_ask_5 : decode cX0_ask 5 = .ok (.aaload, 1) := dk_50 (dk_at dksX0_ask_0 5 rfl rfl)
theorem dX0_ask_6 : decode cX0_ask 6 = .ok (.astore 5, 2) := dk_58 5 (dk_at dksX0_ask_0 6 rfl rfl)
theorem dX0_ask_8 : decode cX0_ask 8 = .ok (.aload_n 0, 1) := dk_42 (dk_at dksX0_ask_0 8 rfl rfl)
theorem dX0_ask_9 : decode cX0_ask 9 = .ok (.getfield 111, 3) := dk_180 0 111 (dk_at dksX0_ask_0 9 rfl rfl)
theorem dX0_ask_12 : decode cX0_ask 12 = .ok (.iconst 0, 1) := dk_3 (dk_at dksX0_ask_0 12 rfl rfl)
theorem dX0_ask_13 : decode cX0_ask 13 = .ok (.iload_n 3, 1) := dk_29 (dk_at dksX0_ask_0 13 rfl rfl)
theorem dX0_ask_14 : decode cX0_ask 14 = .ok (.bipush 60, 2) := dk_16 60 (dk_at dksX0_ask_0 14 rfl rfl)
theorem dX0_ask_16 : decode cX0_ask 16 = .ok (.irem, 1) := dk_112 (dk_at dksX0_ask_0 16 rfl rfl)
theorem dX0_ask_17 : decode cX0_ask 17 = .ok (.iastore, 1) := dk_79 (dk_at dksX0_ask_0 17 rfl rfl)
theorem dX0_ask_18 : decode cX0_ask 18 = .ok (.aload_n 0, 1) := dk_42 (dk_at dksX0_ask_0 18 rfl rfl)
theorem dX0_ask_19 : decode cX0_ask 19 = .ok (.getfield 111, 3) := dk_180 0 111 (dk_at dksX0_ask_0 19 rfl rfl)
theorem dX0_ask_22 : decode cX0_ask 22 = .ok (.iconst 1, 1) := dk_4 (dk_at dksX0_ask_0 22 rfl rfl)
theorem dX0_ask_23 : decode cX0_ask 23 = .ok (.iload_n 3, 1) := dk_29 (dk_at dksX0_ask_0 23 rfl rfl)
theorem dX0_ask_24 : decode cX0_ask 24 = .ok (.invokestatic 190, 3) := dk_184 0 190 (dk_at dksX0_ask_1 0 rfl rfl)
theorem dX0_ask_27 : decode cX0_ask 27 = .ok (.iastore, 1) := dk_79 (dk_at dksX0_ask_1 3 rfl rfl)
theorem dX0_ask_28 : decode cX0_ask 28 = .ok (.aload_n 0, 1) := dk_42 (dk_at dksX0_ask_1 4 rfl rfl)
theorem dX0_ask_29 : decode cX0_ask 29 = .ok (.getfield 111, 3) := dk_180 0 111 (dk_at dksX0_ask_1 5 rfl rfl)
theorem dX0_ask_32 : decode cX0_ask 32 = .ok (.iconst 2, 1) := dk_5 (dk_at dksX0_ask_1 8 rfl rfl)
theorem dX0_ask_33 : decode cX0_ask 33 = .ok (.iload_n 3, 1) := dk_29 (dk_at dksX0_ask_1 9 rfl rfl)
theorem dX0_ask_34 : decode cX0_ask 34 = .ok (.bipush 30, 2) := dk_16 30 (dk_at dksX0_ask_1 10 rfl rfl)
theorem dX0_ask_36 : decode cX0_ask 36 = .ok (.irem, 1) := dk_112 (dk_at dksX0_ask_1 12 rfl rfl)
theorem dX0_ask_37 : decode cX0_ask 37 = .ok (.iastore, 1) := dk_79 (dk_at dksX0_ask_1 13 rfl rfl)
theorem dX0_ask_38 : decode cX0_ask 38 = .ok (.aload_n 0, 1) := dk_42 (dk_at dksX0_ask_1 14 rfl rfl)
theorem dX0_ask_39 : decode cX0_ask 39 = .ok (.getfield 111, 3) := dk_180 0 111 (dk_at dksX0_ask_1 15 rfl rfl)
theorem dX0_ask_42 : decode cX0_ask 42 = .ok (.iconst 3, 1) := dk_6 (dk_at dksX0_ask_1 18 rfl rfl)
theorem dX0_ask_43 : decode cX0_ask 43 = .ok (.iload 4, 2) := dk_21 4 (dk_at dksX0_ask_1 19 rfl rfl)
theorem dX0_ask_45 : decode cX0_ask 45 = .ok (.iastore, 1) := dk_79 (dk_at dksX0_ask_1 21 rfl rfl)
theorem dX0_ask_46 : decode cX0_ask 46 = .ok (.aload_n 0, 1) := dk_42 (dk_at dksX0_ask_1 22 rfl rfl)
theorem dX0_ask_47 : decode cX0_ask 47 = .ok (.getfield 111, 3) := dk_180 0 111 (dk_at dksX0_ask_2 0 rfl rfl)
theorem dX0_ask_50 : decode cX0_ask 50 = .ok (.iconst 4, 1) := dk_7 (dk_at dksX0_ask_2 3 rfl rfl)
theorem dX0_ask_51 : decode cX0_ask 51 = .ok (.aload_n 2, 1) := dk_44 (dk_at dksX0_ask_2 4 rfl rfl)
theorem dX0_ask_52 : decode cX0_ask 52 = .ok (.getfield 209, 3) := dk_180 0 209 (dk_at dksX0_ask_2 5 rfl rfl)
theorem dX0_ask_55 : decode cX0_ask 55 = .ok (.iastore, 1) := dk_79 (dk_at dksX0_ask_2 8 rfl rfl)
theorem dX0_ask_56 : decode cX0_ask 56 = .ok (.aload_n 0, 1) := dk_42 (dk_at dksX0_ask_2 9 rfl rfl)
theorem dX0_ask_57 : decode cX0_ask 57 = .ok (.getfield 111, 3) := dk_180 0 111 (dk_at dksX0_ask_2 10 rfl rfl)
theorem dX0_ask_60 : decode cX0_ask 60 = .ok (.iconst 5, 1) := dk_8 (dk_at dksX0_ask_2 13 rfl rfl)
theorem dX0_ask_61 : decode cX0_ask 61 = .ok (.aload_n 2, 1) := dk_44 (dk_at dksX0_ask_2 14 rfl rfl)
theorem dX0_ask_62 : decode cX0_ask 62 = .ok (.getfield 218, 3) := dk_180 0 218 (dk_at dksX0_ask_2 15 rfl rfl)
theorem dX0_ask_65 : decode cX0_ask 65 = .ok (.iastore, 1) := dk_79 (dk_at dksX0_ask_2 18 rfl rfl)
theorem dX0_ask_66 : decode cX0_ask 66 = .ok (.aload_n 0, 1) := dk_42 (dk_at dksX0_ask_2 19 rfl rfl)
theorem dX0_ask_67 : decode cX0_ask 67 = .ok (.getfield 111, 3) := dk_180 0 111 (dk_at dksX0_ask_2 20 rfl rfl)
theorem dX0_ask_70 : decode cX0_ask 70 = .ok (.bipush 6, 2) := dk_16 6 (dk_at dksX0_ask_3 0 rfl rfl)
theorem dX0_ask_72 : decode cX0_ask 72 = .ok (.aload_n 2, 1) := dk_44 (dk_at dksX0_ask_3 2 rfl rfl)
theorem dX0_ask_73 : decode cX0_ask 73 = .ok (.getfield 220, 3) := dk_180 0 220 (dk_at dksX0_ask_3 3 rfl rfl)
theorem dX0_ask_76 : decode cX0_ask 76 = .ok (.iastore, 1) := dk_79 (dk_at dksX0_ask_3 6 rfl rfl)
theorem dX0_ask_77 : decode cX0_ask 77 = .ok (.aload_n 0, 1) := dk_42 (dk_at dksX0_ask_3 7 rfl rfl)
theorem dX0_ask_78 : decode cX0_ask 78 = .ok (.getfield 111, 3) := dk_180 0 111 (dk_at dksX0_ask_3 8 rfl rfl)
theorem dX0_ask_81 : decode cX0_ask 81 = .ok (.bipush 7, 2) := dk_16 7 (dk_at dksX0_ask_3 11 rfl rfl)
theorem dX0_ask_83 : decode cX0_ask 83 = .ok (.iload_n 3, 1) := dk_29 (dk_at dksX0_ask_3 13 rfl rfl)
theorem dX0_ask_84 : decode cX0_ask 84 = .ok (.bipush 60, 2) := dk_16 60 (dk_at dksX0_ask_3 14 rfl rfl)
theorem dX0_ask_86 : decode cX0_ask 86 = .ok (.idiv, 1) := dk_108 (dk_at dksX0_ask_3 16 rfl rfl)
theorem dX0_ask_87 : decode cX0_ask 87 = .ok (.iastore, 1) := dk_79 (dk_at dksX0_ask_3 17 rfl rfl)
theorem dX0_ask_88 : decode cX0_ask 88 = .ok (.aload 5, 2) := dk_25 5 (dk_at dksX0_ask_3 18 rfl rfl)
theorem dX0_ask_90 : decode cX0_ask 90 = .ok (.iconst 0, 1) := dk_3 (dk_at dksX0_ask_3 20 rfl rfl)
theorem dX0_ask_91 : decode cX0_ask 91 = .ok (.putfield 326, 3) := dk_181 1 70 (dk_at dksX0_ask_3 21 rfl rfl)
theorem dX0_ask_94 : decode cX0_ask 94 = .ok (.aload 5, 2) := dk_25 5 (dk_at dksX0_ask_4 0 rfl rfl)
theorem dX0_ask_96 : decode cX0_ask 96 = .ok (.iconst 0, 1) := dk_3 (dk_at dksX0_ask_4 2 rfl rfl)
theorem dX0_ask_97 : decode cX0_ask 97 = .ok (.putfield 329, 3) := dk_181 1 73 (dk_at dksX0_ask_4 3 rfl rfl)
theorem dX0_ask_100 : decode cX0_ask 100 = .ok (.iconst 0, 1) := dk_3 (dk_at dksX0_ask_4 6 rfl rfl)
theorem dX0_ask_101 : decode cX0_ask 101 = .ok (.istore 6, 2) := dk_54 6 (dk_at dksX0_ask_4 7 rfl rfl)
theorem dX0_ask_103 : decode cX0_ask 103 = .ok (.iload 6, 2) := dk_21 6 (dk_at dksX0_ask_4 9 rfl rfl)
theorem dX0_ask_105 : decode cX0_ask 105 = .ok (.aload_n 0, 1) := dk_42 (dk_at dksX0_ask_4 11 rfl rfl)
theorem dX0_ask_106 : decode cX0_ask 106 = .ok (.getfield 108, 3) := dk_180 0 108 (dk_at dksX0_ask_4 12 rfl rfl)
theorem dX0_ask_109 : decode cX0_ask 109 = .ok (.iload_n 1, 1) := dk_27 (dk_at dksX0_ask_4 15 rfl rfl)
theorem dX0_ask_110 : decode cX0_ask 110 = .ok (.iaload, 1) := dk_46 (dk_at dksX0_ask_4 16 rfl rfl)
theorem dX0_ask_111 : decode cX0_ask 111 = .ok (.if_icmp .ge 27, 3) := dk_162 0 27 (dk_at dksX0_ask_4 17 rfl rfl)
theorem dX0_ask_114 : decode cX0_ask 114 = .ok (.aload_n 0, 1) := dk_42 (dk_at dksX0_ask_4 20 rfl rfl)
theorem dX0_ask_115 : decode cX0_ask 115 = .ok (.getfield 105, 3) := dk_180 0 105 (dk_at dksX0_ask_4 21 rfl rfl)
theorem dX0_ask_118 : decode cX0_ask 118 = .ok (.iload_n 1, 1) := dk_27 (dk_at dksX0_ask_5 0 rfl rfl)
theorem dX0_ask_119 : decode cX0_ask 119 = .ok (.aaload, 1) := dk_50 (dk_at dksX0_ask_5 1 rfl rfl)
theorem dX0_ask_120 : decode cX0_ask 120 = .ok (.iload 6, 2) := dk_21 6 (dk_at dksX0_ask_5 2 rfl rfl)
theorem dX0_ask_122 : decode cX0_ask 122 = .ok (.aaload, 1) := dk_50 (dk_at dksX0_ask_5 4 rfl rfl)
theorem dX0_ask_123 : decode cX0_ask 123 = .ok (.aload_n 0, 1) := dk_42 (dk_at dksX0_ask_5 5 rfl rfl)
theorem dX0_ask_124 : decode cX0_ask 124 = .ok (.getfield 111, 3) := dk_180 0 111 (dk_at dksX0_ask_5 6 rfl rfl)
theorem dX0_ask_127 : decode cX0_ask 127 = .ok (.aload 5, 2) := dk_25 5 (dk_at dksX0_ask_5 9 rfl rfl)
theorem dX0_ask_129 : decode cX0_ask 129 = .ok (.invokevirtual 332, 3) := dk_182 1 76 (dk_at dksX0_ask_5 11 rfl rfl)
theorem dX0_ask_132 : decode cX0_ask 132 = .ok (.iinc 6 1, 3) := dk_132 6 1 (dk_at dksX0_ask_5 14 rfl rfl)
theorem dX0_ask_135 : decode cX0_ask 135 = .ok (.goto (-32), 3) := dk_167 255 224 (dk_at dksX0_ask_5 17 rfl rfl)
theorem dX0_ask_138 : decode cX0_ask 138 = .ok (.aload 5, 2) := dk_25 5 (dk_at dksX0_ask_5 20 rfl rfl)
theorem dX0_ask_140 : decode cX0_ask 140 = .ok (.areturn, 1) := dk_176 (dk_at dksX0_ask_5 22 rfl rfl)
abbrev cX0_left : ByteArray := prog_1_method_28_code
def yX0_left : MethodName := ⟨RX0, "left", "(LCliffHoney$Ledge;LCliffHoney$Custom;)I"⟩
def dkwX0_left_0 : List UInt8 := [42, 180, 0, 220, 43, 180, 1, 70, 104, 16, 100, 96, 4, 100, 16, 100, 108, 172]
abbrev dktX0_left_0 : List UInt8 := dkwX0_left_0 ++ []
theorem dksX0_left_0 : cX0_left.data.toList.drop 0 = dktX0_left_0 := by decide +kernel
theorem dX0_left_0 : decode cX0_left 0 = .ok (.aload_n 0, 1) := dk_42 (dk_at dksX0_left_0 0 rfl rfl)
theorem dX0_left_1 : decode cX0_left 1 = .ok (.getfield 220, 3) := dk_180 0 220 (dk_at dksX0_left_0 1 rfl rfl)
theorem dX0_left_4 : decode cX0_left 4 = .ok (.aload_n 1, 1) := dk_43 (dk_at dksX0_left_0 4 rfl rfl)
theorem dX0_left_5 : decode cX0_left 5 = .ok (.getfield 326, 3) := dk_180 1 70 (dk_at dksX0_left_0 5 rfl rfl)
theorem dX0_left_8 : decode cX0_left 8 = .ok (.imul, 1) := dk_104 (dk_at dksX0_left_0 8 rfl rfl)
theorem dX0_left_9 : decode cX0_left 9 = .ok (.bipush 100, 2) := dk_16 100 (dk_at dksX0_left_0 9 rfl rfl)
theorem dX0_left_11 : decode cX0_left 11 = .ok (.iadd, 1) := dk_96 (dk_at dksX0_left_0 11 rfl rfl)
theorem dX0_left_12 : decode cX0_left 12 = .ok (.iconst 1, 1) := dk_4 (dk_at dksX0_left_0 12 rfl rfl)
theorem dX0_left_13 : decode cX0_left 13 = .ok (.isub, 1) := dk_100 (dk_at dksX0_left_0 13 rfl rfl)
theorem dX0_left_14 : decode cX0_left 14 = .ok (.bipush 100, 2) := dk_16 100 (dk_at dksX0_left_0 14 rfl rfl)
theorem dX0_left_16 : decode cX0_left 16 = .ok (.idiv, 1) := dk_108 (dk_at dksX0_left_0 16 rfl rfl)
theorem dX0_left_17 : decode cX0_left 17 = .ok (.ireturn, 1) := dk_172 (dk_at dksX0_left_0 17 rfl rfl)
abbrev cX0_ladder : ByteArray := prog_1_method_32_code
def yX0_ladder : MethodName := ⟨RX0, "ladder", "(II)I"⟩
def dkwX0_ladder_2 : List UInt8 := [180, 1, 88, 28, 79, 42, 89, 180, 1, 88, 4, 96, 181, 1, 88, 42, 180, 1, 88, 4, 100, 172]
abbrev dktX0_ladder_2 : List UInt8 := dkwX0_ladder_2 ++ []
def dkwX0_ladder_1 : List UInt8 := [180, 1, 88, 7, 160, 0, 5, 2, 172, 42, 180, 0, 121, 42, 180, 1, 88, 27, 79, 42, 180, 0, 124, 42]
abbrev dktX0_ladder_1 : List UInt8 := dkwX0_ladder_1 ++ dktX0_ladder_2
def dkwX0_ladder_0 : List UInt8 := [27, 4, 16, 99, 184, 0, 199, 153, 0, 23, 28, 3, 42, 182, 1, 9, 184, 0, 199, 153, 0, 11, 42]
abbrev dktX0_ladder_0 : List UInt8 := dkwX0_ladder_0 ++ dktX0_ladder_1
theorem dksX0_ladder_0 : cX0_ladder.data.toList.drop 0 = dktX0_ladder_0 := by decide +kernel
theorem dksX0_ladder_1 : cX0_ladder.data.toList.drop 23 = dktX0_ladder_1 := dk_seg dksX0_ladder_0 23 rfl rfl
theorem dksX0_ladder_2 : cX0_ladder.data.toList.drop 47 = dktX0_ladder_2 := dk_seg dksX0_ladder_1 24 rfl rfl
theorem dX0_ladder_0 : decode cX0_ladder 0 = .ok (.iload_n 1, 1) := dk_27 (dk_at dksX0_ladder_0 0 rfl rfl)
theorem dX0_ladder_1 : decode cX0_ladder 1 = .ok (.iconst 1, 1) := dk_4 (dk_at dksX0_ladder_0 1 rfl rfl)
theorem dX0_ladder_2 : decode cX0_ladder 2 = .ok (.bipush 99, 2) := dk_16 99 (dk_at dksX0_ladder_0 2 rfl rfl)
theorem dX0_ladder_4 : decode cX0_ladder 4 = .ok (.invokestatic 199, 3) := dk_184 0 199 (dk_at dksX0_ladder_0 4 rfl rfl)
theorem dX0_ladder_7 : decode cX0_ladder 7 = .ok (.ifCond .eq 23, 3) := dk_153 0 23 (dk_at dksX0_ladder_0 7 rfl rfl)
theorem dX0_ladder_10 : decode cX0_ladder 10 = .ok (.iload_n 2, 1) := dk_28 (dk_at dksX0_ladder_0 10 rfl rfl)
theorem dX0_ladder_11 : decode cX0_ladder 11 = .ok (.iconst 0, 1) := dk_3 (dk_at dksX0_ladder_0 11 rfl rfl)
theorem dX0_ladder_12 : decode cX0_ladder 12 = .ok (.aload_n 0, 1) := dk_42 (dk_at dksX0_ladder_0 12 rfl rfl)
theorem dX0_ladder_13 : decode cX0_ladder 13 = .ok (.invokevirtual 265, 3) := dk_182 1 9 (dk_at dksX0_ladder_0 13 rfl rfl)
theorem dX0_ladder_16 : decode cX0_ladder 16 = .ok (.invokestatic 199, 3) := dk_184 0 199 (dk_at dksX0_ladder_0 16 rfl rfl)
theorem dX0_ladder_19 : decode cX0_ladder 19 = .ok (.ifCond .eq 11, 3) := dk_153 0 11 (dk_at dksX0_ladder_0 19 rfl rfl)
theorem dX0_ladder_22 : decode cX0_ladder 22 = .ok (.aload_n 0, 1) := dk_42 (dk_at dksX0_ladder_0 22 rfl rfl)
theorem dX0_ladder_23 : decode cX0_ladder 23 = .ok (.getfield 344, 3) := dk_180 1 88 (dk_at dksX0_ladder_1 0 rfl rfl)
theorem dX0_ladder_26 : decode cX0_ladder 26 = .ok (.iconst 4, 1) := dk_7 (dk_at dksX0_ladder_1 3 rfl rfl)
theorem dX0_ladder_27 : decode cX0_ladder 27 = .ok (.if_icmp .ne 5, 3) := dk_160 0 5 (dk_at dksX0_ladder_1 4 rfl rfl)
theorem dX0_ladder_30 : decode cX0_ladder 30 = .ok (.iconst (-1), 1) := dk_2 (dk_at dksX0_ladder_1 7 rfl rfl)
theorem dX0_ladder_31 : decode cX0_ladder 31 = .ok (.ireturn, 1) := dk_172 (dk_at dksX0_ladder_1 8 rfl rfl)
theorem dX0_ladder_32 : decode cX0_ladder 32 = .ok (.aload_n 0, 1) := dk_42 (dk_at dksX0_ladder_1 9 rfl rfl)
theorem dX0_ladder_33 : decode cX0_ladder 33 = .ok (.getfield 121, 3) := dk_180 0 121 (dk_at dksX0_ladder_1 10 rfl rfl)
theorem dX0_ladder_36 : decode cX0_ladder 36 = .ok (.aload_n 0, 1) := dk_42 (dk_at dksX0_ladder_1 13 rfl rfl)
theorem dX0_ladder_37 : decode cX0_ladder 37 = .ok (.getfield 344, 3) := dk_180 1 88 (dk_at dksX0_ladder_1 14 rfl rfl)
theorem dX0_ladder_40 : decode cX0_ladder 40 = .ok (.iload_n 1, 1) := dk_27 (dk_at dksX0_ladder_1 17 rfl rfl)
theorem dX0_ladder_41 : decode cX0_ladder 41 = .ok (.iastore, 1) := dk_79 (dk_at dksX0_ladder_1 18 rfl rfl)
theorem dX0_ladder_42 : decode cX0_ladder 42 = .ok (.aload_n 0, 1) := dk_42 (dk_at dksX0_ladder_1 19 rfl rfl)
theorem dX0_ladder_43 : decode cX0_ladder 43 = .ok (.getfield 124, 3) := dk_180 0 124 (dk_at dksX0_ladder_1 20 rfl rfl)
theorem dX0_ladder_46 : decode cX0_ladder 46 = .ok (.aload_n 0, 1) := dk_42 (dk_at dksX0_ladder_1 23 rfl rfl)
theorem dX0_ladder_47 : decode cX0_ladder 47 = .ok (.getfield 344, 3) := dk_180 1 88 (dk_at dksX0_ladder_2 0 rfl rfl)
theorem dX0_ladder_50 : decode cX0_ladder 50 = .ok (.iload_n 2, 1) := dk_28 (dk_at dksX0_ladder_2 3 rfl rfl)
theorem dX0_ladder_51 : decode cX0_ladder 51 = .ok (.iastore, 1) := dk_79 (dk_at dksX0_ladder_2 4 rfl rfl)
theorem dX0_ladder_52 : decode cX0_ladder 52 = .ok (.aload_n 0, 1) := dk_42 (dk_at dksX0_ladder_2 5 rfl rfl)
theorem dX0_ladder_53 : decode cX0_ladder 53 = .ok (.dup, 1) := dk_89 (dk_at dksX0_ladder_2 6 rfl rfl)
theorem dX0_ladder_54 : decode cX0_ladder 54 = .ok (.getfield 344, 3) := dk_180 1 88 (dk_at dksX0_ladder_2 7 rfl rfl)
theorem dX0_ladder_57 : decode cX0_ladder 57 = .ok (.iconst 1, 1) := dk_4 (dk_at dksX0_ladder_2 10 rfl rfl)
theorem dX0_ladder_58 : decode cX0_ladder 58 = .ok (.iadd, 1) := dk_96 (dk_at dksX0_ladder_2 11 rfl rfl)
theorem dX0_ladder_59 : decode cX0_ladder 59 = .ok (.putfield 344, 3) := dk_181 1 88 (dk_at dksX0_ladder_2 12 rfl rfl)
theorem dX0_ladder_62 : decode cX0_ladder 62 = .ok (.aload_n 0, 1) := dk_42 (dk_at dksX0_ladder_2 15 rfl rfl)
theorem dX0_ladder_63 : decode cX0_ladder 63 = .ok (.getfield 344, 3) := dk_180 1 88 (dk_at dksX0_ladder_2 16 rfl rfl)
theorem dX0_ladder_66 : decode cX0_ladder 66 = .ok (.iconst 1, 1) := dk_4 (dk_at dksX0_ladder_2 19 rfl rfl)
theorem dX0_ladder_67 : decode cX0_ladder 67 = .ok (.isub, 1) := dk_100 (dk_at dksX0_ladder_2 20 rfl rfl)
theorem dX0_ladder_68 : decode cX0_ladder 68 = .ok (.ireturn, 1) := dk_172 (dk_at dksX0_ladder_2 21 rfl rfl)
abbrev cX0_rung : ByteArray := prog_1_method_33_code
def yX0_rung : MethodName := ⟨RX0, "rung", "(II)I"⟩
def dkwX0_rung_2 : List UInt8 := [27, 182, 1, 94, 167, 0, 4, 2, 172]
abbrev dktX0_rung_2 : List UInt8 := dkwX0_rung_2 ++ []
def dkwX0_rung_1 : List UInt8 := [4, 160, 0, 17, 42, 182, 1, 9, 42, 180, 0, 124, 27, 46, 100, 167, 0, 17, 28, 5, 160, 0, 11, 42]
abbrev dktX0_rung_1 : List UInt8 := dkwX0_rung_1 ++ dktX0_rung_2
def dkwX0_rung_0 : List UInt8 := [42, 27, 182, 1, 91, 154, 0, 5, 2, 172, 28, 154, 0, 12, 42, 180, 0, 121, 27, 46, 167, 0, 36, 28]
abbrev dktX0_rung_0 : List UInt8 := dkwX0_rung_0 ++ dktX0_rung_1
theorem dksX0_rung_0 : cX0_rung.data.toList.drop 0 = dktX0_rung_0 := by decide +kernel
theorem dksX0_rung_1 : cX0_rung.data.toList.drop 24 = dktX0_rung_1 := dk_seg dksX0_rung_0 24 rfl rfl
theorem dksX0_rung_2 : cX0_rung.data.toList.drop 48 = dktX0_rung_2 := dk_seg dksX0_rung_1 24 rfl rfl
theorem dX0_rung_0 : decode cX0_rung 0 = .ok (.aload_n 0, 1) := dk_42 (dk_at dksX0_rung_0 0 rfl rfl)
theorem dX0_rung_1 : decode cX0_rung 1 = .ok (.iload_n 1, 1) := dk_27 (dk_at dksX0_rung_0 1 rfl rfl)
theorem dX0_rung_2 : decode cX0_rung 2 = .ok (.invokevirtual 347, 3) := dk_182 1 91 (dk_at dksX0_rung_0 2 rfl rfl)
theorem dX0_rung_5 : decode cX0_rung 5 = .ok (.ifCond .ne 5, 3) := dk_154 0 5 (dk_at dksX0_rung_0 5 rfl rfl)
theorem dX0_rung_8 : decode cX0_rung 8 = .ok (.iconst (-1), 1) := dk_2 (dk_at dksX0_rung_0 8 rfl rfl)
theorem dX0_rung_9 : decode cX0_rung 9 = .ok (.ireturn, 1) := dk_172 (dk_at dksX0_rung_0 9 rfl rfl)
theorem dX0_rung_10 : decode cX0_rung 10 = .ok (.iload_n 2, 1) := dk_28 (dk_at dksX0_rung_0 10 rfl rfl)
theorem dX0_rung_11 : decode cX0_rung 11 = .ok (.ifCond .ne 12, 3) := dk_154 0 12 (dk_at dksX0_rung_0 11 rfl rfl)
theorem dX0_rung_14 : decode cX0_rung 14 = .ok (.aload_n 0, 1) := dk_42 (dk_at dksX0_rung_0 14 rfl rfl)
theorem dX0_rung_15 : decode cX0_rung 15 = .ok (.getfield 121, 3) := dk_180 0 121 (dk_at dksX0_rung_0 15 rfl rfl)
theorem dX0_rung_18 : decode cX0_rung 18 = .ok (.iload_n 1, 1) := dk_27 (dk_at dksX0_rung_0 18 rfl rfl)
theorem dX0_rung_19 : decode cX0_rung 19 = .ok (.iaload, 1) := dk_46 (dk_at dksX0_rung_0 19 rfl rfl)
theorem dX0_rung_20 : decode cX0_rung 20 = .ok (.goto 36, 3) := dk_167 0 36 (dk_at dksX0_rung_0 20 rfl rfl)
theorem dX0_rung_23 : decode cX0_rung 23 = .ok (.iload_n 2, 1) := dk_28 (dk_at dksX0_rung_0 23 rfl rfl)
theorem dX0_rung_24 : decode cX0_rung 24 = .ok (.iconst 1, 1) := dk_4 (dk_at dksX0_rung_1 0 rfl rfl)
theorem dX0_rung_25 : decode cX0_rung 25 = .ok (.if_icmp .ne 17, 3) := dk_160 0 17 (dk_at dksX0_rung_1 1 rfl rfl)
theorem dX0_rung_28 : decode cX0_rung 28 = .ok (.aload_n 0, 1) := dk_42 (dk_at dksX0_rung_1 4 rfl rfl)
theorem dX0_rung_29 : decode cX0_rung 29 = .ok (.invokevirtual 265, 3) := dk_182 1 9 (dk_at dksX0_rung_1 5 rfl rfl)
theorem dX0_rung_32 : decode cX0_rung 32 = .ok (.aload_n 0, 1) := dk_42 (dk_at dksX0_rung_1 8 rfl rfl)
theorem dX0_rung_33 : decode cX0_rung 33 = .ok (.getfield 124, 3) := dk_180 0 124 (dk_at dksX0_rung_1 9 rfl rfl)
theorem dX0_rung_36 : decode cX0_rung 36 = .ok (.iload_n 1, 1) := dk_27 (dk_at dksX0_rung_1 12 rfl rfl)
theorem dX0_rung_37 : decode cX0_rung 37 = .ok (.iaload, 1) := dk_46 (dk_at dksX0_rung_1 13 rfl rfl)
theorem dX0_rung_38 : decode cX0_rung 38 = .ok (.isub, 1) := dk_100 (dk_at dksX0_rung_1 14 rfl rfl)
theorem dX0_rung_39 : decode cX0_rung 39 = .ok (.goto 17, 3) := dk_167 0 17 (dk_at dksX0_rung_1 15 rfl rfl)
theorem dX0_rung_42 : decode cX0_rung 42 = .ok (.iload_n 2, 1) := dk_28 (dk_at dksX0_rung_1 18 rfl rfl)
theorem dX0_rung_43 : decode cX0_rung 43 = .ok (.iconst 2, 1) := dk_5 (dk_at dksX0_rung_1 19 rfl rfl)
theorem dX0_rung_44 : decode cX0_rung 44 = .ok (.if_icmp .ne 11, 3) := dk_160 0 11 (dk_at dksX0_rung_1 20 rfl rfl)
theorem dX0_rung_47 : decode cX0_rung 47 = .ok (.aload_n 0, 1) := dk_42 (dk_at dksX0_rung_1 23 rfl rfl)
theorem dX0_rung_48 : decode cX0_rung 48 = .ok (.iload_n 1, 1) := dk_27 (dk_at dksX0_rung_2 0 rfl rfl)
theorem dX0_rung_49 : decode cX0_rung 49 = .ok (.invokevirtual 350, 3) := dk_182 1 94 (dk_at dksX0_rung_2 1 rfl rfl)
theorem dX0_rung_52 : decode cX0_rung 52 = .ok (.goto 4, 3) := dk_167 0 4 (dk_at dksX0_rung_2 4 rfl rfl)
theorem dX0_rung_55 : decode cX0_rung 55 = .ok (.iconst (-1), 1) := dk_2 (dk_at dksX0_rung_2 7 rfl rfl)
theorem dX0_rung_56 : decode cX0_rung 56 = .ok (.ireturn, 1) := dk_172 (dk_at dksX0_rung_2 8 rfl rfl)
abbrev cX0_isLadder : ByteArray := prog_1_method_30_code
def yX0_isLadder : MethodName := ⟨RX0, "isLadder", "(I)Z"⟩
def dkwX0_isLadder_0 : List UInt8 := [27, 155, 0, 15, 27, 42, 180, 1, 88, 162, 0, 7, 4, 167, 0, 4, 3, 172]
abbrev dktX0_isLadder_0 : List UInt8 := dkwX0_isLadder_0 ++ []
theorem dksX0_isLadder_0 : cX0_isLadder.data.toList.drop 0 = dktX0_isLadder_0 := by decide +kernel
theorem dX0_isLadder_0 : decode cX0_isLadder 0 = .ok (.iload_n 1, 1) := dk_27 (dk_at dksX0_isLadder_0 0 rfl rfl)
theorem dX0_isLadder_1 : decode cX0_isLadder 1 = .ok (.ifCond .lt 15, 3) := dk_155 0 15 (dk_at dksX0_isLadder_0 1 rfl rfl)
theorem dX0_isLadder_4 : decode cX0_isLadder 4 = .ok (.iload_n 1, 1) := dk_27 (dk_at dksX0_isLadder_0 4 rfl rfl)
theorem dX0_isLadder_5 : decode cX0_isLadder 5 = .ok (.aload_n 0, 1) := dk_42 (dk_at dksX0_isLadder_0 5 rfl rfl)
theorem dX0_isLadder_6 : decode cX0_isLadder 6 = .ok (.getfield 344, 3) := dk_180 1 88 (dk_at dksX0_isLadder_0 6 rfl rfl)
theorem dX0_isLadder_9 : decode cX0_isLadder 9 = .ok (.if_icmp .ge 7, 3) := dk_162 0 7 (dk_at dksX0_isLadder_0 9 rfl rfl)
theorem dX0_isLadder_12 : decode cX0_isLadder 12 = .ok (.iconst 1, 1) := dk_4 (dk_at dksX0_isLadder_0 12 rfl rfl)
theorem dX0_isLadder_13 : decode cX0_isLadder 13 = .ok (.goto 4, 3) := dk_167 0 4 (dk_at dksX0_isLadder_0 13 rfl rfl)
theorem dX0_isLadder_16 : decode cX0_isLadder 16 = .ok (.iconst 0, 1) := dk_3 (dk_at dksX0_isLadder_0 16 rfl rfl)
theorem dX0_isLadder_17 : decode cX0_isLadder 17 = .ok (.ireturn, 1) := dk_172 (dk_at dksX0_isLadder_0 17 rfl rfl)
abbrev cX0_bears : ByteArray := prog_1_method_31_code
def yX0_bears : MethodName := ⟨RX0, "bears", "(I)I"⟩
def dkwX0_bears_0 : List UInt8 := [17, 0, 150, 16, 6, 42, 182, 1, 9, 42, 180, 0, 124, 27, 46, 100, 104, 100, 172]
abbrev dktX0_bears_0 : List UInt8 := dkwX0_bears_0 ++ []
theorem dksX0_bears_0 : cX0_bears.data.toList.drop 0 = dktX0_bears_0 := by decide +kernel
theorem dX0_bears_0 : decode cX0_bears 0 = .ok (.sipush 150, 3) := dk_17 0 150 (dk_at dksX0_bears_0 0 rfl rfl)
theorem dX0_bears_3 : decode cX0_bears 3 = .ok (.bipush 6, 2) := dk_16 6 (dk_at dksX0_bears_0 3 rfl rfl)
theorem dX0_bears_5 : decode cX0_bears 5 = .ok (.aload_n 0, 1) := dk_42 (dk_at dksX0_bears_0 5 rfl rfl)
theorem dX0_bears_6 : decode cX0_bears 6 = .ok (.invokevirtual 265, 3) := dk_182 1 9 (dk_at dksX0_bears_0 6 rfl rfl)
theorem dX0_bears_9 : decode cX0_bears 9 = .ok (.aload_n 0, 1) := dk_42 (dk_at dksX0_bears_0 9 rfl rfl)
theorem dX0_bears_10 : decode cX0_bears 10 = .ok (.getfield 124, 3) := dk_180 0 124 (dk_at dksX0_bears_0 10 rfl rfl)
theorem dX0_bears_13 : decode cX0_bears 13 = .ok (.iload_n 1, 1) := dk_27 (dk_at dksX0_bears_0 13 rfl rfl)
theorem dX0_bears_14 : decode cX0_bears 14 = .ok (.iaload, 1) := dk_46 (dk_at dksX0_bears_0 14 rfl rfl)
theorem dX0_bears_15 : decode cX0_bears 15 = .ok (.isub, 1) := dk_100 (dk_at dksX0_bears_0 15 rfl rfl)
theorem dX0_bears_16 : decode cX0_bears 16 = .ok (.imul, 1) := dk_104 (dk_at dksX0_bears_0 16 rfl rfl)
theorem dX0_bears_17 : decode cX0_bears 17 = .ok (.isub, 1) := dk_100 (dk_at dksX0_bears_0 17 rfl rfl)
theorem dX0_bears_18 : decode cX0_bears 18 = .ok (.ireturn, 1) := dk_172 (dk_at dksX0_bears_0 18 rfl rfl)
abbrev cX0_reach : ByteArray := prog_1_method_36_code
def yX0_reach : MethodName := ⟨RX0, "reach", "(III)I"⟩
def dkwX0_reach_1 : List UInt8 := [182, 1, 109, 167, 0, 4, 2, 172]
abbrev dktX0_reach_1 : List UInt8 := dkwX0_reach_1 ++ []
def dkwX0_reach_0 : List UInt8 := [42, 27, 28, 29, 182, 1, 103, 153, 0, 21, 42, 27, 28, 42, 180, 0, 138, 29, 50, 180, 1, 106]
abbrev dktX0_reach_0 : List UInt8 := dkwX0_reach_0 ++ dktX0_reach_1
theorem dksX0_reach_0 : cX0_reach.data.toList.drop 0 = dktX0_reach_0 := by decide +kernel
theorem dksX0_reach_1 : cX0_reach.data.toList.drop 22 = dktX0_reach_1 := dk_seg dksX0_reach_0 22 rfl rfl
theorem dX0_reach_0 : decode cX0_reach 0 = .ok (.aload_n 0, 1) := dk_42 (dk_at dksX0_reach_0 0 rfl rfl)
theorem dX0_reach_1 : decode cX0_reach 1 = .ok (.iload_n 1, 1) := dk_27 (dk_at dksX0_reach_0 1 rfl rfl)
theorem dX0_reach_2 : decode cX0_reach 2 = .ok (.iload_n 2, 1) := dk_28 (dk_at dksX0_reach_0 2 rfl rfl)
theorem dX0_reach_3 : decode cX0_reach 3 = .ok (.iload_n 3, 1) := dk_29 (dk_at dksX0_reach_0 3 rfl rfl)
theorem dX0_reach_4 : decode cX0_reach 4 = .ok (.invokevirtual 359, 3) := dk_182 1 103 (dk_at dksX0_reach_0 4 rfl rfl)
theorem dX0_reach_7 : decode cX0_reach 7 = .ok (.ifCond .eq 21, 3) := dk_153 0 21 (dk_at dksX0_reach_0 7 rfl rfl)
theorem dX0_reach_10 : decode cX0_reach 10 = .ok (.aload_n 0, 1) := dk_42 (dk_at dksX0_reach_0 10 rfl rfl)
theorem dX0_reach_11 : decode cX0_reach 11 = .ok (.iload_n 1, 1) := dk_27 (dk_at dksX0_reach_0 11 rfl rfl)
theorem dX0_reach_12 : decode cX0_reach 12 = .ok (.iload_n 2, 1) := dk_28 (dk_at dksX0_reach_0 12 rfl rfl)
theorem dX0_reach_13 : decode cX0_reach 13 = .ok (.aload_n 0, 1) := dk_42 (dk_at dksX0_reach_0 13 rfl rfl)
theorem dX0_reach_14 : decode cX0_reach 14 = .ok (.getfield 138, 3) := dk_180 0 138 (dk_at dksX0_reach_0 14 rfl rfl)
theorem dX0_reach_17 : decode cX0_reach 17 = .ok (.iload_n 3, 1) := dk_29 (dk_at dksX0_reach_0 17 rfl rfl)
theorem dX0_reach_18 : decode cX0_reach 18 = .ok (.aaload, 1) := dk_50 (dk_at dksX0_reach_0 18 rfl rfl)
theorem dX0_reach_19 : decode cX0_reach 19 = .ok (.getfield 362, 3) := dk_180 1 106 (dk_at dksX0_reach_0 19 rfl rfl)
theorem dX0_reach_22 : decode cX0_reach 22 = .ok (.invokevirtual 365, 3) := dk_182 1 109 (dk_at dksX0_reach_1 0 rfl rfl)
theorem dX0_reach_25 : decode cX0_reach 25 = .ok (.goto 4, 3) := dk_167 0 4 (dk_at dksX0_reach_1 3 rfl rfl)
theorem dX0_reach_28 : decode cX0_reach 28 = .ok (.iconst (-1), 1) := dk_2 (dk_at dksX0_reach_1 6 rfl rfl)
theorem dX0_reach_29 : decode cX0_reach 29 = .ok (.ireturn, 1) := dk_172 (dk_at dksX0_reach_1 7 rfl rfl)
abbrev cX0_canReach : ByteArray := prog_1_method_35_code
def yX0_canReach : MethodName := ⟨RX0, "canReach", "(III)Z"⟩
def dkwX0_canReach_1 : List UInt8 := [153, 0, 7, 4, 167, 0, 4, 3, 172]
abbrev dktX0_canReach_1 : List UInt8 := dkwX0_canReach_1 ++ []
def dkwX0_canReach_0 : List UInt8 := [42, 27, 182, 1, 91, 153, 0, 25, 28, 3, 16, 15, 184, 0, 199, 153, 0, 15, 42, 29, 182, 1, 100]
abbrev dktX0_canReach_0 : List UInt8 := dkwX0_canReach_0 ++ dktX0_canReach_1
theorem dksX0_canReach_0 : cX0_canReach.data.toList.drop 0 = dktX0_canReach_0 := by decide +kernel
theorem dksX0_canReach_1 : cX0_canReach.data.toList.drop 23 = dktX0_canReach_1 := dk_seg dksX0_canReach_0 23 rfl rfl
theorem dX0_canReach_0 : decode cX0_canReach 0 = .ok (.aload_n 0, 1) := dk_42 (dk_at dksX0_canReach_0 0 rfl rfl)
theorem dX0_canReach_1 : decode cX0_canReach 1 = .ok (.iload_n 1, 1) := dk_27 (dk_at dksX0_canReach_0 1 rfl rfl)
theorem dX0_canReach_2 : decode cX0_canReach 2 = .ok (.invokevirtual 347, 3) := dk_182 1 91 (dk_at dksX0_canReach_0 2 rfl rfl)
theorem dX0_canReach_5 : decode cX0_canReach 5 = .ok (.ifCond .eq 25, 3) := dk_153 0 25 (dk_at dksX0_canReach_0 5 rfl rfl)
theorem dX0_canReach_8 : decode cX0_canReach 8 = .ok (.iload_n 2, 1) := dk_28 (dk_at dksX0_canReach_0 8 rfl rfl)
theorem dX0_canReach_9 : decode cX0_canReach 9 = .ok (.iconst 0, 1) := dk_3 (dk_at dksX0_canReach_0 9 rfl rfl)
theorem dX0_canReach_10 : decode cX0_canReach 10 = .ok (.bipush 15, 2) := dk_16 15 (dk_at dksX0_canReach_0 10 rfl rfl)
theorem dX0_canReach_12 : decode cX0_canReach 12 = .ok (.invokestatic 199, 3) := dk_184 0 199 (dk_at dksX0_canReach_0 12 rfl rfl)
theorem dX0_canReach_15 : decode cX0_canReach 15 = .ok (.ifCond .eq 15, 3) := dk_153 0 15 (dk_at dksX0_canReach_0 15 rfl rfl)
theorem dX0_canReach_18 : decode cX0_canReach 18 = .ok (.aload_n 0, 1) := dk_42 (dk_at dksX0_canReach_0 18 rfl rfl)
theorem dX0_canReach_19 : decode cX0_canReach 19 = .ok (.iload_n 3, 1) := dk_29 (dk_at dksX0_canReach_0 19 rfl rfl)
theorem dX0_canReach_20 : decode cX0_canReach 20 = .ok (.invokevirtual 356, 3) := dk_182 1 100 (dk_at dksX0_canReach_0 20 rfl rfl)
theorem dX0_canReach_23 : decode cX0_canReach 23 = .ok (.ifCond .eq 7, 3) := dk_153 0 7 (dk_at dksX0_canReach_1 0 rfl rfl)
theorem dX0_canReach_26 : decode cX0_canReach 26 = .ok (.iconst 1, 1) := dk_4 (dk_at dksX0_canReach_1 3 rfl rfl)
theorem dX0_canReach_27 : decode cX0_canReach 27 = .ok (.goto 4, 3) := dk_167 0 4 (dk_at dksX0_canReach_1 4 rfl rfl)
theorem dX0_canReach_30 : decode cX0_canReach 30 = .ok (.iconst 0, 1) := dk_3 (dk_at dksX0_canReach_1 7 rfl rfl)
theorem dX0_canReach_31 : decode cX0_canReach 31 = .ok (.ireturn, 1) := dk_172 (dk_at dksX0_canReach_1 8 rfl rfl)
abbrev cX0_isPerson : ByteArray := prog_1_method_41_code
def yX0_isPerson : MethodName := ⟨RX0, "isPerson", "(I)Z"⟩
def dkwX0_isPerson_0 : List UInt8 := [27, 155, 0, 15, 27, 42, 180, 0, 203, 162, 0, 7, 4, 167, 0, 4, 3, 172]
abbrev dktX0_isPerson_0 : List UInt8 := dkwX0_isPerson_0 ++ []
theorem dksX0_isPerson_0 : cX0_isPerson.data.toList.drop 0 = dktX0_isPerson_0 := by decide +kernel
theorem dX0_isPerson_0 : decode cX0_isPerson 0 = .ok (.iload_n 1, 1) := dk_27 (dk_at dksX0_isPerson_0 0 rfl rfl)
theorem dX0_isPerson_1 : decode cX0_isPerson 1 = .ok (.ifCond .lt 15, 3) := dk_155 0 15 (dk_at dksX0_isPerson_0 1 rfl rfl)
theorem dX0_isPerson_4 : decode cX0_isPerson 4 = .ok (.iload_n 1, 1) := dk_27 (dk_at dksX0_isPerson_0 4 rfl rfl)
theorem dX0_isPerson_5 : decode cX0_isPerson 5 = .ok (.aload_n 0, 1) := dk_42 (dk_at dksX0_isPerson_0 5 rfl rfl)
theorem dX0_isPerson_6 : decode cX0_isPerson 6 = .ok (.getfield 203, 3) := dk_180 0 203 (dk_at dksX0_isPerson_0 6 rfl rfl)
theorem dX0_isPerson_9 : decode cX0_isPerson 9 = .ok (.if_icmp .ge 7, 3) := dk_162 0 7 (dk_at dksX0_isPerson_0 9 rfl rfl)
theorem dX0_isPerson_12 : decode cX0_isPerson 12 = .ok (.iconst 1, 1) := dk_4 (dk_at dksX0_isPerson_0 12 rfl rfl)
theorem dX0_isPerson_13 : decode cX0_isPerson 13 = .ok (.goto 4, 3) := dk_167 0 4 (dk_at dksX0_isPerson_0 13 rfl rfl)
theorem dX0_isPerson_16 : decode cX0_isPerson 16 = .ok (.iconst 0, 1) := dk_3 (dk_at dksX0_isPerson_0 16 rfl rfl)
theorem dX0_isPerson_17 : decode cX0_isPerson 17 = .ok (.ireturn, 1) := dk_172 (dk_at dksX0_isPerson_0 17 rfl rfl)
abbrev cX0_reachOf : ByteArray := prog_1_method_34_code
def yX0_reachOf : MethodName := ⟨RX0, "reachOf", "(III)I"⟩
def dkwX0_reachOf_7 : List UInt8 := [21, 4, 4, 21, 5, 120, 128, 54, 4, 132, 5, 1, 167, 255, 109, 21, 4, 172]
abbrev dktX0_reachOf_7 : List UInt8 := dkwX0_reachOf_7 ++ []
def dkwX0_reachOf_6 : List UInt8 := [158, 0, 32, 29, 42, 180, 0, 127, 21, 5, 46, 16, 20, 108, 96, 42, 27, 182, 1, 94, 163, 0, 12]
abbrev dktX0_reachOf_6 : List UInt8 := dkwX0_reachOf_6 ++ dktX0_reachOf_7
def dkwX0_reachOf_5 : List UInt8 := [25, 6, 25, 7, 184, 1, 84, 100, 79, 25, 7, 180, 1, 73, 154, 0, 42, 42, 180, 0, 127, 21, 5, 46]
abbrev dktX0_reachOf_5 : List UInt8 := dkwX0_reachOf_5 ++ dktX0_reachOf_6
def dkwX0_reachOf_4 : List UInt8 := [42, 180, 0, 193, 42, 180, 1, 7, 182, 1, 80, 58, 7, 42, 180, 0, 127, 21, 5, 25, 6, 180, 0, 220]
abbrev dktX0_reachOf_4 : List UInt8 := dkwX0_reachOf_4 ++ dktX0_reachOf_5
def dkwX0_reachOf_3 : List UInt8 := [180, 0, 121, 27, 46, 100, 161, 0, 98, 25, 6, 180, 0, 226, 153, 0, 6, 167, 0, 87, 42, 3, 25, 6]
abbrev dktX0_reachOf_3 : List UInt8 := dkwX0_reachOf_3 ++ dktX0_reachOf_4
def dkwX0_reachOf_2 : List UInt8 := [58, 6, 25, 6, 180, 0, 206, 28, 100, 184, 1, 97, 4, 163, 0, 115, 25, 6, 180, 0, 209, 16, 99, 42]
abbrev dktX0_reachOf_2 : List UInt8 := dkwX0_reachOf_2 ++ dktX0_reachOf_3
def dkwX0_reachOf_1 : List UInt8 := [164, 0, 5, 3, 172, 3, 54, 5, 21, 5, 42, 180, 0, 196, 162, 0, 144, 42, 180, 0, 11, 21, 5, 50]
abbrev dktX0_reachOf_1 : List UInt8 := dkwX0_reachOf_1 ++ dktX0_reachOf_2
def dkwX0_reachOf_0 : List UInt8 := [3, 54, 4, 42, 182, 1, 9, 42, 180, 0, 124, 27, 46, 100, 42, 180, 0, 117, 3, 50, 180, 1, 65]
abbrev dktX0_reachOf_0 : List UInt8 := dkwX0_reachOf_0 ++ dktX0_reachOf_1
theorem dksX0_reachOf_0 : cX0_reachOf.data.toList.drop 0 = dktX0_reachOf_0 := by decide +kernel
theorem dksX0_reachOf_1 : cX0_reachOf.data.toList.drop 23 = dktX0_reachOf_1 := dk_seg dksX0_reachOf_0 23 rfl rfl
theorem dksX0_reachOf_2 : cX0_reachOf.data.toList.drop 47 = dktX0_reachOf_2 := dk_seg dksX0_reachOf_1 24 rfl rfl
theorem dksX0_reachOf_3 : cX0_reachOf.data.toList.drop 71 = dktX0_reachOf_3 := dk_seg dksX0_reachOf_2 24 rfl rfl
theorem dksX0_reachOf_4 : cX0_reachOf.data.toList.drop 95 = dktX0_reachOf_4 := dk_seg dksX0_reachOf_3 24 rfl rfl
theorem dksX0_reachOf_5 : cX0_reachOf.data.toList.drop 119 = dktX0_reachOf_5 := dk_seg dksX0_reachOf_4 24 rfl rfl
theorem dksX0_reachOf_6 : cX0_reachOf.data.toList.drop 143 = dktX0_reachOf_6 := dk_seg dksX0_reachOf_5 24 rfl rfl
theorem dksX0_reachOf_7 : cX0_reachOf.data.toList.drop 166 = dktX0_reachOf_7 := dk_seg dksX0_reachOf_6 23 rfl rfl
theorem dX0_reachOf_0 : decode cX0_reachOf 0 = .ok (.iconst 0, 1) := dk_3 (dk_at dksX0_reachOf_0 0 rfl rfl)
theorem dX0_reachOf_1 : decode cX0_reachOf 1 = .ok (.istore 4, 2) := dk_54 4 (dk_at dksX0_reachOf_0 1 rfl rfl)
theorem dX0_reachOf_3 : decode cX0_reachOf 3 = .ok (.aload_n 0, 1) := dk_42 (dk_at dksX0_reachOf_0 3 rfl rfl)
theorem dX0_reachOf_4 : decode cX0_reachOf 4 = .ok (.invokevirtual 265, 3) := dk_182 1 9 (dk_at dksX0_reachOf_0 4 rfl rfl)
theorem dX0_reachOf_7 : decode cX0_reachOf 7 = .ok (.aload_n 0, 1) := dk_42 (dk_at dksX0_reachOf_0 7 rfl rfl)
theorem dX0_reachOf_8 : decode cX0_reachOf 8 = .ok (.getfield 124, 3) := dk_180 0 124 (dk_at dksX0_reachOf_0 8 rfl rfl)
theorem dX0_reachOf_11 : decode cX0_reachOf 11 = .ok (.iload_n 1, 1) := dk_27 (dk_at dksX0_reachOf_0 11 rfl rfl)
theorem dX0_reachOf_12 : decode cX0_reachOf 12 = .ok (.iaload, 1) := dk_46 (dk_at dksX0_reachOf_0 12 rfl rfl)
theorem dX0_reachOf_13 : decode cX0_reachOf 13 = .ok (.isub, 1) := dk_100 (dk_at dksX0_reachOf_0 13 rfl rfl)
theorem dX0_reachOf_14 : decode cX0_reachOf 14 = .ok (.aload_n 0, 1) := dk_42 (dk_at dksX0_reachOf_0 14 rfl rfl)
theorem dX0_reachOf_15 : decode cX0_reachOf 15 = .ok (.getfield 117, 3) := dk_180 0 117 (dk_at dksX0_reachOf_0 15 rfl rfl)
theorem dX0_reachOf_18 : decode cX0_reachOf 18 = .ok (.iconst 0, 1) := dk_3 (dk_at dksX0_reachOf_0 18 rfl rfl)
theorem dX0_reachOf_19 : decode cX0_reachOf 19 = .ok (.aaload, 1) := dk_50 (dk_at dksX0_reachOf_0 19 rfl rfl)
theorem dX0_reachOf_20 : decode cX0_reachOf 20 = .ok (.getfield 321, 3) := dk_180 1 65 (dk_at dksX0_reachOf_0 20 rfl rfl)
theorem dX0_reachOf_23 : decode cX0_reachOf 23 = .ok (.if_icmp .le 5, 3) := dk_164 0 5 (dk_at dksX0_reachOf_1 0 rfl rfl)
theorem dX0_reachOf_26 : decode cX0_reachOf 26 = .ok (.iconst 0, 1) := dk_3 (dk_at dksX0_reachOf_1 3 rfl rfl)
theorem dX0_reachOf_27 : decode cX0_reachOf 27 = .ok (.ireturn, 1) := dk_172 (dk_at dksX0_reachOf_1 4 rfl rfl)
theorem dX0_reachOf_28 : decode cX0_reachOf 28 = .ok (.iconst 0, 1) := dk_3 (dk_at dksX0_reachOf_1 5 rfl rfl)
theorem dX0_reachOf_29 : decode cX0_reachOf 29 = .ok (.istore 5, 2) := dk_54 5 (dk_at dksX0_reachOf_1 6 rfl rfl)
theorem dX0_reachOf_31 : decode cX0_reachOf 31 = .ok (.iload 5, 2) := dk_21 5 (dk_at dksX0_reachOf_1 8 rfl rfl)
theorem dX0_reachOf_33 : decode cX0_reachOf 33 = .ok (.aload_n 0, 1) := dk_42 (dk_at dksX0_reachOf_1 10 rfl rfl)
theorem dX0_reachOf_34 : decode cX0_reachOf 34 = .ok (.getfield 196, 3) := dk_180 0 196 (dk_at dksX0_reachOf_1 11 rfl rfl)
theorem dX0_reachOf_37 : decode cX0_reachOf 37 = .ok (.if_icmp .ge 144, 3) := dk_162 0 144 (dk_at dksX0_reachOf_1 14 rfl rfl)
theorem dX0_reachOf_40 : decode cX0_reachOf 40 = .ok (.aload_n 0, 1) := dk_42 (dk_at dksX0_reachOf_1 17 rfl rfl)
theorem dX0_reachOf_41 : decode cX0_reachOf 41 = .ok (.getfield 11, 3) := dk_180 0 11 (dk_at dksX0_reachOf_1 18 rfl rfl)
theorem dX0_reachOf_44 : decode cX0_reachOf 44 = .ok (.iload 5, 2) := dk_21 5 (dk_at dksX0_reachOf_1 21 rfl rfl)
theorem dX0_reachOf_46 : decode cX0_reachOf 46 = .ok (.aaload, 1) := dk_50 (dk_at dksX0_reachOf_1 23 rfl rfl)
theorem dX0_reachOf_47 : decode cX0_reachOf 47 = .ok (.astore 6, 2) := dk_58 6 (dk_at dksX0_reachOf_2 0 rfl rfl)
theorem dX0_reachOf_49 : decode cX0_reachOf 49 = .ok (.aload 6, 2) := dk_25 6 (dk_at dksX0_reachOf_2 2 rfl rfl)
theorem dX0_reachOf_51 : decode cX0_reachOf 51 = .ok (.getfield 206, 3) := dk_180 0 206 (dk_at dksX0_reachOf_2 4 rfl rfl)
theorem dX0_reachOf_54 : decode cX0_reachOf 54 = .ok (.iload_n 2, 1) := dk_28 (dk_at dksX0_reachOf_2 7 rfl rfl)
theorem dX0_reachOf_55 : decode cX0_reachOf 55 = .ok (.isub, 1) := dk_100 (dk_at dksX0_reachOf_2 8 rfl rfl)
theorem dX0_reachOf_56 : decode cX0_reachOf 56 = .ok (.invokestatic 353, 3) := dk_184 1 97 (dk_at dksX0_reachOf_2 9 rfl rfl)
theorem dX0_reachOf_59 : decode cX0_reachOf 59 = .ok (.iconst 1, 1) := dk_4 (dk_at dksX0_reachOf_2 12 rfl rfl)
theorem dX0_reachOf_60 : decode cX0_reachOf 60 = .ok (.if_icmp .gt 115, 3) := dk_163 0 115 (dk_at dksX0_reachOf_2 13 rfl rfl)
theorem dX0_reachOf_63 : decode cX0_reachOf 63 = .ok (.aload 6, 2) := dk_25 6 (dk_at dksX0_reachOf_2 16 rfl rfl)
theorem dX0_reachOf_65 : decode cX0_reachOf 65 = .ok (.getfield 209, 3) := dk_180 0 209 (dk_at dksX0_reachOf_2 18 rfl rfl)
theorem dX0_reachOf_68 : decode cX0_reachOf 68 = .ok (.bipush 99, 2) := dk_16 99 (dk_at dksX0_reachOf_2 21 rfl rfl)
theorem dX0_reachOf_70 : decode cX0_reachOf 70 = .ok (.aload_n 0, 1) := dk_42 (dk_at dksX0_reachOf_2 23 rfl rfl)
theorem dX0_reachOf_71 : decode cX0_reachOf 71 = .ok (.getfield 121, 3) := dk_180 0 121 (dk_at dksX0_reachOf_3 0 rfl rfl)
theorem dX0_reachOf_74 : decode cX0_reachOf 74 = .ok (.iload_n 1, 1) := dk_27 (dk_at dksX0_reachOf_3 3 rfl rfl)
theorem dX0_reachOf_75 : decode cX0_reachOf 75 = .ok (.iaload, 1) := dk_46 (dk_at dksX0_reachOf_3 4 rfl rfl)
theorem dX0_reachOf_76 : decode cX0_reachOf 76 = .ok (.isub, 1) := dk_100 (dk_at dksX0_reachOf_3 5 rfl rfl)
theorem dX0_reachOf_77 : decode cX0_reachOf 77 = .ok (.if_icmp .lt 98, 3) := dk_161 0 98 (dk_at dksX0_reachOf_3 6 rfl rfl)
theorem dX0_reachOf_80 : decode cX0_reachOf 80 = .ok (.aload 6, 2) := dk_25 6 (dk_at dksX0_reachOf_3 9 rfl rfl)
theorem dX0_reachOf_82 : decode cX0_reachOf 82 = .ok (.getfield 226, 3) := dk_180 0 226 (dk_at dksX0_reachOf_3 11 rfl rfl)
theorem dX0_reachOf_85 : decode cX0_reachOf 85 = .ok (.ifCond .eq 6, 3) := dk_153 0 6 (dk_at dksX0_reachOf_3 14 rfl rfl)
theorem dX0_reachOf_88 : decode cX0_reachOf 88 = .ok (.goto 87, 3) := dk_167 0 87 (dk_at dksX0_reachOf_3 17 rfl rfl)
theorem dX0_reachOf_91 : decode cX0_reachOf 91 = .ok (.aload_n 0, 1) := dk_42 (dk_at dksX0_reachOf_3 20 rfl rfl)
theorem dX0_reachOf_92 : decode cX0_reachOf 92 = .ok (.iconst 0, 1) := dk_3 (dk_at dksX0_reachOf_3 21 rfl rfl)
theorem dX0_reachOf_93 : decode cX0_reachOf 93 = .ok (.aload 6, 2) := dk_25 6 (dk_at dksX0_reachOf_3 22 rfl rfl)
theorem dX0_reachOf_95 : decode cX0_reachOf 95 = .ok (.aload_n 0, 1) := dk_42 (dk_at dksX0_reachOf_4 0 rfl rfl)
theorem dX0_reachOf_96 : decode cX0_reachOf 96 = .ok (.getfield 193, 3) := dk_180 0 193 (dk_at dksX0_reachOf_4 1 rfl rfl)
theorem dX0_reachOf_99 : decode cX0_reachOf 99 = .ok (.aload_n 0, 1) := dk_42 (dk_at dksX0_reachOf_4 4 rfl rfl)
theorem dX0_reachOf_100 : decode cX0_reachOf 100 = .ok (.getfield 263, 3) := dk_180 1 7 (dk_at dksX0_reachOf_4 5 rfl rfl)
theorem dX0_reachOf_103 : decode cX0_reachOf 103 = .ok (.invokevirtual 336, 3) := dk_182 1 80 (dk_at dksX0_reachOf_4 8 rfl rfl)
theorem dX0_reachOf_106 : decode cX0_reachOf 106 = .ok (.astore 7, 2) := dk_58 7 (dk_at dksX0_reachOf_4 11 rfl rfl)
theorem dX0_reachOf_108 : decode cX0_reachOf 108 = .ok (.aload_n 0, 1) := dk_42 (dk_at dksX0_reachOf_4 13 rfl rfl)
theorem dX0_reachOf_109 : decode cX0_reachOf 109 = .ok (.getfield 127, 3) := dk_180 0 127 (dk_at dksX0_reachOf_4 14 rfl rfl)
theorem dX0_reachOf_112 : decode cX0_reachOf 112 = .ok (.iload 5, 2) := dk_21 5 (dk_at dksX0_reachOf_4 17 rfl rfl)
theorem dX0_reachOf_114 : decode cX0_reachOf 114 = .ok (.aload 6, 2) := dk_25 6 (dk_at dksX0_reachOf_4 19 rfl rfl)
theorem dX0_reachOf_116 : decode cX0_reachOf 116 = .ok (.getfield 220, 3) := dk_180 0 220 (dk_at dksX0_reachOf_4 21 rfl rfl)
theorem dX0_reachOf_119 : decode cX0_reachOf 119 = .ok (.aload 6, 2) := dk_25 6 (dk_at dksX0_reachOf_5 0 rfl rfl)
theorem dX0_reachOf_121 : decode cX0_reachOf 121 = .ok (.aload 7, 2) := dk_25 7 (dk_at dksX0_reachOf_5 2 rfl rfl)
theorem dX0_reachOf_123 : decode cX0_reachOf 123 = .ok (.invokestatic 340, 3) := dk_184 1 84 (dk_at dksX0_reachOf_5 4 rfl rfl)
theorem dX0_reachOf_126 : decode cX0_reachOf 126 = .ok (.isub, 1) := dk_100 (dk_at dksX0_reachOf_5 7 rfl rfl)
theorem dX0_reachOf_127 : decode cX0_reachOf 127 = .ok (.iastore, 1) := dk_79 (dk_at dksX0_reachOf_5 8 rfl rfl)
theorem dX0_reachOf_128 : decode cX0_reachOf 128 = .ok (.aload 7, 2) := dk_25 7 (dk_at dksX0_reachOf_5 9 rfl rfl)
theorem dX0_reachOf_130 : decode cX0_reachOf 130 = .ok (.getfield 329, 3) := dk_180 1 73 (dk_at dksX0_reachOf_5 11 rfl rfl)
theorem dX0_reachOf_133 : decode cX0_reachOf 133 = .ok (.ifCond .ne 42, 3) := dk_154 0 42 (dk_at dksX0_reachOf_5 14 rfl rfl)
theorem dX0_reachOf_136 : decode cX0_reachOf 136 = .ok (.aload_n 0, 1) := dk_42 (dk_at dksX0_reachOf_5 17 rfl rfl)
theorem dX0_reachOf_137 : decode cX0_reachOf 137 = .ok (.getfield 127, 3) := dk_180 0 127 (dk_at dksX0_reachOf_5 18 rfl rfl)
theorem dX0_reachOf_140 : decode cX0_reachOf 140 = .ok (.iload 5, 2) := dk_21 5 (dk_at dksX0_reachOf_5 21 rfl rfl)
theorem dX0_reachOf_142 : decode cX0_reachOf 142 = .ok (.iaload, 1) := dk_46 (dk_at dksX0_reachOf_5 23 rfl rfl)
theorem dX0_reachOf_143 : decode cX0_reachOf 143 = .ok (.ifCond .le 32, 3) := dk_158 0 32 (dk_at dksX0_reachOf_6 0 rfl rfl)
theorem dX0_reachOf_146 : decode cX0_reachOf 146 = .ok (.iload_n 3, 1) := dk_29 (dk_at dksX0_reachOf_6 3 rfl rfl)
theorem dX0_reachOf_147 : decode cX0_reachOf 147 = .ok (.aload_n 0, 1) := dk_42 (dk_at dksX0_reachOf_6 4 rfl rfl)
theorem dX0_reachOf_148 : decode cX0_reachOf 148 = .ok (.getfield 127, 3) := dk_180 0 127 (dk_at dksX0_reachOf_6 5 rfl rfl)
theorem dX0_reachOf_151 : decode cX0_reachOf 151 = .ok (.iload 5, 2) := dk_21 5 (dk_at dksX0_reachOf_6 8 rfl rfl)
theorem dX0_reachOf_153 : decode cX0_reachOf 153 = .ok (.iaload, 1) := dk_46 (dk_at dksX0_reachOf_6 10 rfl rfl)
theorem dX0_reachOf_154 : decode cX0_reachOf 154 = .ok (.bipush 20, 2) := dk_16 20 (dk_at dksX0_reachOf_6 11 rfl rfl)
theorem dX0_reachOf_156 : decode cX0_reachOf 156 = .ok (.idiv, 1) := dk_108 (dk_at dksX0_reachOf_6 13 rfl rfl)
theorem dX0_reachOf_157 : decode cX0_reachOf 157 = .ok (.iadd, 1) := dk_96 (dk_at dksX0_reachOf_6 14 rfl rfl)
theorem dX0_reachOf_158 : decode cX0_reachOf 158 = .ok (.aload_n 0, 1) := dk_42 (dk_at dksX0_reachOf_6 15 rfl rfl)
theorem dX0_reachOf_159 : decode cX0_reachOf 159 = .ok (.iload_n 1, 1) := dk_27 (dk_at dksX0_reachOf_6 16 rfl rfl)
theorem dX0_reachOf_160 : decode cX0_reachOf 160 = .ok (.invokevirtual 350, 3) := dk_182 1 94 (dk_at dksX0_reachOf_6 17 rfl rfl)
theorem dX0_reachOf_163 : decode cX0_reachOf 163 = .ok (.if_icmp .gt 12, 3) := dk_163 0 12 (dk_at dksX0_reachOf_6 20 rfl rfl)
theorem dX0_reachOf_166 : decode cX0_reachOf 166 = .ok (.iload 4, 2) := dk_21 4 (dk_at dksX0_reachOf_7 0 rfl rfl)
theorem dX0_reachOf_168 : decode cX0_reachOf 168 = .ok (.iconst 1, 1) := dk_4 (dk_at dksX0_reachOf_7 2 rfl rfl)
theorem dX0_reachOf_169 : decode cX0_reachOf 169 = .ok (.iload 5, 2) := dk_21 5 (dk_at dksX0_reachOf_7 3 rfl rfl)
theorem dX0_reachOf_171 : decode cX0_reachOf 171 = .ok (.ishl, 1) := dk_120 (dk_at dksX0_reachOf_7 5 rfl rfl)
theorem dX0_reachOf_172 : decode cX0_reachOf 172 = .ok (.ior, 1) := dk_128 (dk_at dksX0_reachOf_7 6 rfl rfl)
theorem dX0_reachOf_173 : decode cX0_reachOf 173 = .ok (.istore 4, 2) := dk_54 4 (dk_at dksX0_reachOf_7 7 rfl rfl)
theorem dX0_reachOf_175 : decode cX0_reachOf 175 = .ok (.iinc 5 1, 3) := dk_132 5 1 (dk_at dksX0_reachOf_7 9 rfl rfl)
theorem dX0_reachOf_178 : decode cX0_reachOf 178 = .ok (.goto (-147), 3) := dk_167 255 109 (dk_at dksX0_reachOf_7 12 rfl rfl)
theorem dX0_reachOf_181 : decode cX0_reachOf 181 = .ok (.iload 4, 2) := dk_21 4 (dk_at dksX0_reachOf_7 15 rfl rfl)
theorem dX0_reachOf_183 : decode cX0_reachOf 183 = .ok (.ireturn, 1) := dk_172 (dk_at dksX0_reachOf_7 17 rfl rfl)
abbrev cX0_row : ByteArray := prog_1_method_40_code
def yX0_row : MethodName := ⟨RX0, "row", "(IIII)I"⟩
def dkwX0_row_4 : List UInt8 := [167, 0, 4, 2, 172]
abbrev dktX0_row_4 : List UInt8 := dkwX0_row_4 ++ []
def dkwX0_row_3 : List UInt8 := [16, 9, 42, 180, 1, 119, 96, 184, 0, 199, 153, 0, 16, 42, 180, 0, 133, 21, 4, 16, 10, 100, 46]
abbrev dktX0_row_3 : List UInt8 := dkwX0_row_3 ++ dktX0_row_4
def dkwX0_row_2 : List UInt8 := [42, 180, 1, 119, 172, 42, 180, 1, 113, 172, 42, 180, 1, 116, 172, 42, 180, 1, 122, 172, 21, 4, 16, 10]
abbrev dktX0_row_2 : List UInt8 := dkwX0_row_2 ++ dktX0_row_3
def dkwX0_row_1 : List UInt8 := [170, 0, 0, 0, 0, 0, 51, 0, 0, 0, 0, 0, 0, 0, 3, 0, 0, 0, 31, 0, 0, 0, 36, 0, 0, 0, 41, 0, 0, 0, 46]
abbrev dktX0_row_1 : List UInt8 := dkwX0_row_1 ++ dktX0_row_2
def dkwX0_row_0 : List UInt8 := [42, 27, 28, 29, 182, 1, 103, 154, 0, 5, 2, 172, 42, 27, 28, 29, 182, 1, 139, 21, 4]
abbrev dktX0_row_0 : List UInt8 := dkwX0_row_0 ++ dktX0_row_1
theorem dksX0_row_0 : cX0_row.data.toList.drop 0 = dktX0_row_0 := by decide +kernel
theorem dksX0_row_1 : cX0_row.data.toList.drop 21 = dktX0_row_1 := dk_seg dksX0_row_0 21 rfl rfl
theorem dksX0_row_2 : cX0_row.data.toList.drop 52 = dktX0_row_2 := dk_seg dksX0_row_1 31 rfl rfl
theorem dksX0_row_3 : cX0_row.data.toList.drop 76 = dktX0_row_3 := dk_seg dksX0_row_2 24 rfl rfl
theorem dksX0_row_4 : cX0_row.data.toList.drop 99 = dktX0_row_4 := dk_seg dksX0_row_3 23 rfl rfl
theorem dX0_row_0 : decode cX0_row 0 = .ok (.aload_n 0, 1) := dk_42 (dk_at dksX0_row_0 0 rfl rfl)
theorem dX0_row_1 : decode cX0_row 1 = .ok (.iload_n 1, 1) := dk_27 (dk_at dksX0_row_0 1 rfl rfl)
theorem dX0_row_2 : decode cX0_row 2 = .ok (.iload_n 2, 1) := dk_28 (dk_at dksX0_row_0 2 rfl rfl)
theorem dX0_row_3 : decode cX0_row 3 = .ok (.iload_n 3, 1) := dk_29 (dk_at dksX0_row_0 3 rfl rfl)
theorem dX0_row_4 : decode cX0_row 4 = .ok (.invokevirtual 359, 3) := dk_182 1 103 (dk_at dksX0_row_0 4 rfl rfl)
theorem dX0_row_7 : decode cX0_row 7 = .ok (.ifCond .ne 5, 3) := dk_154 0 5 (dk_at dksX0_row_0 7 rfl rfl)
theorem dX0_row_10 : decode cX0_row 10 = .ok (.iconst (-1), 1) := dk_2 (dk_at dksX0_row_0 10 rfl rfl)
theorem dX0_row_11 : decode cX0_row 11 = .ok (.ireturn, 1) := dk_172 (dk_at dksX0_row_0 11 rfl rfl)
theorem dX0_row_12 : decode cX0_row 12 = .ok (.aload_n 0, 1) := dk_42 (dk_at dksX0_row_0 12 rfl rfl)
theorem dX0_row_13 : decode cX0_row 13 = .ok (.iload_n 1, 1) := dk_27 (dk_at dksX0_row_0 13 rfl rfl)
theorem dX0_row_14 : decode cX0_row 14 = .ok (.iload_n 2, 1) := dk_28 (dk_at dksX0_row_0 14 rfl rfl)
theorem dX0_row_15 : decode cX0_row 15 = .ok (.iload_n 3, 1) := dk_29 (dk_at dksX0_row_0 15 rfl rfl)
theorem dX0_row_16 : decode cX0_row 16 = .ok (.invokevirtual 395, 3) := dk_182 1 139 (dk_at dksX0_row_0 16 rfl rfl)
theorem dX0_row_19 : decode cX0_row 19 = .ok (.iload 4, 2) := dk_21 4 (dk_at dksX0_row_0 19 rfl rfl)
theorem dX0_row_21 : decode cX0_row 21 = .ok (.tableswitch 51 0 3 #[31, 36, 41, 46], 31) := by decide +kernel
theorem dX0_row_52 : decode cX0_row 52 = .ok (.aload_n 0, 1) := dk_42 (dk_at dksX0_row_2 0 rfl rfl)
theorem dX0_row_53 : decode cX0_row 53 = .ok (.getfield 375, 3) := dk_180 1 119 (dk_at dksX0_row_2 1 rfl rfl)
theorem dX0_row_56 : decode cX0_row 56 = .ok (.ireturn, 1) := dk_172 (dk_at dksX0_row_2 4 rfl rfl)
theorem dX0_row_57 : decode cX0_row 57 = .ok (.aload_n 0, 1) := dk_42 (dk_at dksX0_row_2 5 rfl rfl)
theorem dX0_row_58 : decode cX0_row 58 = .ok (.getfield 369, 3) := dk_180 1 113 (dk_at dksX0_row_2 6 rfl rfl)
theorem dX0_row_61 : decode cX0_row 61 = .ok (.ireturn, 1) := dk_172 (dk_at dksX0_row_2 9 rfl rfl)
theorem dX0_row_62 : decode cX0_row 62 = .ok (.aload_n 0, 1) := dk_42 (dk_at dksX0_row_2 10 rfl rfl)
theorem dX0_row_63 : decode cX0_row 63 = .ok (.getfield 372, 3) := dk_180 1 116 (dk_at dksX0_row_2 11 rfl rfl)
theorem dX0_row_66 : decode cX0_row 66 = .ok (.ireturn, 1) := dk_172 (dk_at dksX0_row_2 14 rfl rfl)
theorem dX0_row_67 : decode cX0_row 67 = .ok (.aload_n 0, 1) := dk_42 (dk_at dksX0_row_2 15 rfl rfl)
theorem dX0_row_68 : decode cX0_row 68 = .ok (.getfield 378, 3) := dk_180 1 122 (dk_at dksX0_row_2 16 rfl rfl)
theorem dX0_row_71 : decode cX0_row 71 = .ok (.ireturn, 1) := dk_172 (dk_at dksX0_row_2 19 rfl rfl)
theorem dX0_row_72 : decode cX0_row 72 = .ok (.iload 4, 2) := dk_21 4 (dk_at dksX0_row_2 20 rfl rfl)
theorem dX0_row_74 : decode cX0_row 74 = .ok (.bipush 10, 2) := dk_16 10 (dk_at dksX0_row_2 22 rfl rfl)
theorem dX0_row_76 : decode cX0_row 76 = .ok (.bipush 9, 2) := dk_16 9 (dk_at dksX0_row_3 0 rfl rfl)
theorem dX0_row_78 : decode cX0_row 78 = .ok (.aload_n 0, 1) := dk_42 (dk_at dksX0_row_3 2 rfl rfl)
theorem dX0_row_79 : decode cX0_row 79 = .ok (.getfield 375, 3) := dk_180 1 119 (dk_at dksX0_row_3 3 rfl rfl)
theorem dX0_row_82 : decode cX0_row 82 = .ok (.iadd, 1) := dk_96 (dk_at dksX0_row_3 6 rfl rfl)
theorem dX0_row_83 : decode cX0_row 83 = .ok (.invokestatic 199, 3) := dk_184 0 199 (dk_at dksX0_row_3 7 rfl rfl)
theorem dX0_row_86 : decode cX0_row 86 = .ok (.ifCond .eq 16, 3) := dk_153 0 16 (dk_at dksX0_row_3 10 rfl rfl)
theorem dX0_row_89 : decode cX0_row 89 = .ok (.aload_n 0, 1) := dk_42 (dk_at dksX0_row_3 13 rfl rfl)
theorem dX0_row_90 : decode cX0_row 90 = .ok (.getfield 133, 3) := dk_180 0 133 (dk_at dksX0_row_3 14 rfl rfl)
theorem dX0_row_93 : decode cX0_row 93 = .ok (.iload 4, 2) := dk_21 4 (dk_at dksX0_row_3 17 rfl rfl)
theorem dX0_row_95 : decode cX0_row 95 = .ok (.bipush 10, 2) := dk_16 10 (dk_at dksX0_row_3 19 rfl rfl)
theorem dX0_row_97 : decode cX0_row 97 = .ok (.isub, 1) := dk_100 (dk_at dksX0_row_3 21 rfl rfl)
theorem dX0_row_98 : decode cX0_row 98 = .ok (.iaload, 1) := dk_46 (dk_at dksX0_row_3 22 rfl rfl)
theorem dX0_row_99 : decode cX0_row 99 = .ok (.goto 4, 3) := dk_167 0 4 (dk_at dksX0_row_4 0 rfl rfl)
theorem dX0_row_102 : decode cX0_row 102 = .ok (.iconst (-1), 1) := dk_2 (dk_at dksX0_row_4 3 rfl rfl)
theorem dX0_row_103 : decode cX0_row 103 = .ok (.ireturn, 1) := dk_172 (dk_at dksX0_row_4 4 rfl rfl)
abbrev cX0_findRow : ByteArray := prog_1_method_39_code
def yX0_findRow : MethodName := ⟨RX0, "findRow", "(III)V"⟩
def dkwX0_findRow_3 : List UInt8 := [182, 1, 135, 177]
abbrev dktX0_findRow_3 : List UInt8 := dkwX0_findRow_3 ++ []
def dkwX0_findRow_2 : List UInt8 := [21, 5, 21, 5, 4, 100, 126, 54, 5, 132, 6, 1, 167, 255, 221, 42, 3, 21, 4, 16, 99, 3, 3, 3]
abbrev dktX0_findRow_2 : List UInt8 := dkwX0_findRow_2 ++ dktX0_findRow_3
def dkwX0_findRow_1 : List UInt8 := [21, 6, 16, 7, 162, 0, 34, 21, 5, 153, 0, 29, 21, 4, 21, 5, 21, 5, 116, 126, 128, 54, 4]
abbrev dktX0_findRow_1 : List UInt8 := dkwX0_findRow_1 ++ dktX0_findRow_2
def dkwX0_findRow_0 : List UInt8 := [3, 54, 4, 42, 27, 28, 42, 180, 0, 138, 29, 50, 180, 1, 106, 182, 1, 109, 54, 5, 3, 54, 6]
abbrev dktX0_findRow_0 : List UInt8 := dkwX0_findRow_0 ++ dktX0_findRow_1
theorem dksX0_findRow_0 : cX0_findRow.data.toList.drop 0 = dktX0_findRow_0 := by decide +kernel
theorem dksX0_findRow_1 : cX0_findRow.data.toList.drop 23 = dktX0_findRow_1 := dk_seg dksX0_findRow_0 23 rfl rfl
theorem dksX0_findRow_2 : cX0_findRow.data.toList.drop 46 = dktX0_findRow_2 := dk_seg dksX0_findRow_1 23 rfl rfl
theorem dksX0_findRow_3 : cX0_findRow.data.toList.drop 70 = dktX0_findRow_3 := dk_seg dksX0_findRow_2 24 rfl rfl
theorem dX0_findRow_0 : decode cX0_findRow 0 = .ok (.iconst 0, 1) := dk_3 (dk_at dksX0_findRow_0 0 rfl rfl)
theorem dX0_findRow_1 : decode cX0_findRow 1 = .ok (.istore 4, 2) := dk_54 4 (dk_at dksX0_findRow_0 1 rfl rfl)
theorem dX0_findRow_3 : decode cX0_findRow 3 = .ok (.aload_n 0, 1) := dk_42 (dk_at dksX0_findRow_0 3 rfl rfl)
theorem dX0_findRow_4 : decode cX0_findRow 4 = .ok (.iload_n 1, 1) := dk_27 (dk_at dksX0_findRow_0 4 rfl rfl)
theorem dX0_findRow_5 : decode cX0_findRow 5 = .ok (.iload_n 2, 1) := dk_28 (dk_at dksX0_findRow_0 5 rfl rfl)
theorem dX0_findRow_6 : decode cX0_findRow 6 = .ok (.aload_n 0, 1) := dk_42 (dk_at dksX0_findRow_0 6 rfl rfl)
theorem dX0_findRow_7 : decode cX0_findRow 7 = .ok (.getfield 138, 3) := dk_180 0 138 (dk_at dksX0_findRow_0 7 rfl rfl)
theorem dX0_findRow_10 : decode cX0_findRow 10 = .ok (.iload_n 3, 1) := dk_29 (dk_at dksX0_findRow_0 10 rfl rfl)
theorem dX0_findRow_11 : decode cX0_findRow 11 = .ok (.aaload, 1) := dk_50 (dk_at dksX0_findRow_0 11 rfl rfl)
theorem dX0_findRow_12 : decode cX0_findRow 12 = .ok (.getfield 362, 3) := dk_180 1 106 (dk_at dksX0_findRow_0 12 rfl rfl)
theorem dX0_findRow_15 : decode cX0_findRow 15 = .ok (.invokevirtual 365, 3) := dk_182 1 109 (dk_at dksX0_findRow_0 15 rfl rfl)
theorem dX0_findRow_18 : decode cX0_findRow 18 = .ok (.istore 5, 2) := dk_54 5 (dk_at dksX0_findRow_0 18 rfl rfl)
theorem dX0_findRow_20 : decode cX0_findRow 20 = .ok (.iconst 0, 1) := dk_3 (dk_at dksX0_findRow_0 20 rfl rfl)
theorem dX0_findRow_21 : decode cX0_findRow 21 = .ok (.istore 6, 2) := dk_54 6 (dk_at dksX0_findRow_0 21 rfl rfl)
theorem dX0_findRow_23 : decode cX0_findRow 23 = .ok (.iload 6, 2) := dk_21 6 (dk_at dksX0_findRow_1 0 rfl rfl)
theorem dX0_findRow_25 : decode cX0_findRow 25 = .ok (.bipush 7, 2) := dk_16 7 (dk_at dksX0_findRow_1 2 rfl rfl)
theorem dX0_findRow_27 : decode cX0_findRow 27 = .ok (.if_icmp .ge 34, 3) := dk_162 0 34 (dk_at dksX0_findRow_1 4 rfl rfl)
theorem dX0_findRow_30 : decode cX0_findRow 30 = .ok (.iload 5, 2) := dk_21 5 (dk_at dksX0_findRow_1 7 rfl rfl)
theorem dX0_findRow_32 : decode cX0_findRow 32 = .ok (.ifCond .eq 29, 3) := dk_153 0 29 (dk_at dksX0_findRow_1 9 rfl rfl)
theorem dX0_findRow_35 : decode cX0_findRow 35 = .ok (.iload 4, 2) := dk_21 4 (dk_at dksX0_findRow_1 12 rfl rfl)
theorem dX0_findRow_37 : decode cX0_findRow 37 = .ok (.iload 5, 2) := dk_21 5 (dk_at dksX0_findRow_1 14 rfl rfl)
theorem dX0_findRow_39 : decode cX0_findRow 39 = .ok (.iload 5, 2) := dk_21 5 (dk_at dksX0_findRow_1 16 rfl rfl)
theorem dX0_findRow_41 : decode cX0_findRow 41 = .ok (.ineg, 1) := dk_116 (dk_at dksX0_findRow_1 18 rfl rfl)
theorem dX0_findRow_42 : decode cX0_findRow 42 = .ok (.iand, 1) := dk_126 (dk_at dksX0_findRow_1 19 rfl rfl)
theorem dX0_findRow_43 : decode cX0_findRow 43 = .ok (.ior, 1) := dk_128 (dk_at dksX0_findRow_1 20 rfl rfl)
theorem dX0_findRow_44 : decode cX0_findRow 44 = .ok (.istore 4, 2) := dk_54 4 (dk_at dksX0_findRow_1 21 rfl rfl)
theorem dX0_findRow_46 : decode cX0_findRow 46 = .ok (.iload 5, 2) := dk_21 5 (dk_at dksX0_findRow_2 0 rfl rfl)
theorem dX0_findRow_48 : decode cX0_findRow 48 = .ok (.iload 5, 2) := dk_21 5 (dk_at dksX0_findRow_2 2 rfl rfl)
theorem dX0_findRow_50 : decode cX0_findRow 50 = .ok (.iconst 1, 1) := dk_4 (dk_at dksX0_findRow_2 4 rfl rfl)
theorem dX0_findRow_51 : decode cX0_findRow 51 = .ok (.isub, 1) := dk_100 (dk_at dksX0_findRow_2 5 rfl rfl)
theorem dX0_findRow_52 : decode cX0_findRow 52 = .ok (.iand, 1) := dk_126 (dk_at dksX0_findRow_2 6 rfl rfl)
theorem dX0_findRow_53 : decode cX0_findRow 53 = .ok (.istore 5, 2) := dk_54 5 (dk_at dksX0_findRow_2 7 rfl rfl)
theorem dX0_findRow_55 : decode cX0_findRow 55 = .ok (.iinc 6 1, 3) := dk_132 6 1 (dk_at dksX0_findRow_2 9 rfl rfl)
theorem dX0_findRow_58 : decode cX0_findRow 58 = .ok (.goto (-35), 3) := dk_167 255 221 (dk_at dksX0_findRow_2 12 rfl rfl)
theorem dX0_findRow_61 : decode cX0_findRow 61 = .ok (.aload_n 0, 1) := dk_42 (dk_at dksX0_findRow_2 15 rfl rfl)
theorem dX0_findRow_62 : decode cX0_findRow 62 = .ok (.iconst 0, 1) := dk_3 (dk_at dksX0_findRow_2 16 rfl rfl)
theorem dX0_findRow_63 : decode cX0_findRow 63 = .ok (.iload 4, 2) := dk_21 4 (dk_at dksX0_findRow_2 17 rfl rfl)
theorem dX0_findRow_65 : decode cX0_findRow 65 = .ok (.bipush 99, 2) := dk_16 99 (dk_at dksX0_findRow_2 19 rfl rfl)
theorem dX0_findRow_67 : decode cX0_findRow 67 = .ok (.iconst 0, 1) := dk_3 (dk_at dksX0_findRow_2 21 rfl rfl)
theorem dX0_findRow_68 : decode cX0_findRow 68 = .ok (.iconst 0, 1) := dk_3 (dk_at dksX0_findRow_2 22 rfl rfl)
theorem dX0_findRow_69 : decode cX0_findRow 69 = .ok (.iconst 0, 1) := dk_3 (dk_at dksX0_findRow_2 23 rfl rfl)
theorem dX0_findRow_70 : decode cX0_findRow 70 = .ok (.invokevirtual 391, 3) := dk_182 1 135 (dk_at dksX0_findRow_3 0 rfl rfl)
theorem dX0_findRow_73 : decode cX0_findRow 73 = .ok (.return_, 1) := dk_177 (dk_at dksX0_findRow_3 3 rfl rfl)
abbrev cX0_tries : ByteArray := prog_1_method_38_code
def yX0_tries : MethodName := ⟨RX0, "tries", "(IIIIII)V"⟩
def dkwX0_tries_10 : List UInt8 := [21, 6, 21, 10, 96, 182, 1, 135, 132, 8, 1, 167, 255, 121, 177]
abbrev dktX0_tries_10 : List UInt8 := dkwX0_tries_10 ++ []
def dkwX0_tries_9 : List UInt8 := [42, 180, 0, 127, 21, 8, 46, 16, 9, 96, 16, 10, 108, 96, 21, 5, 42, 180, 0, 127, 21, 8, 46, 96]
abbrev dktX0_tries_9 : List UInt8 := dkwX0_tries_9 ++ dktX0_tries_10
def dkwX0_tries_8 : List UInt8 := [126, 25, 9, 180, 0, 209, 21, 4, 5, 29, 25, 9, 180, 0, 209, 100, 184, 1, 97, 104, 96, 16, 15, 96]
abbrev dktX0_tries_8 : List UInt8 := dkwX0_tries_8 ++ dktX0_tries_9
def dkwX0_tries_7 : List UInt8 := [180, 0, 218, 54, 10, 42, 180, 0, 130, 27, 21, 8, 79, 42, 27, 4, 96, 28, 4, 21, 8, 120, 2, 130]
abbrev dktX0_tries_7 : List UInt8 := dkwX0_tries_7 ++ dktX0_tries_8
def dkwX0_tries_6 : List UInt8 := [42, 27, 25, 9, 182, 1, 131, 153, 0, 13, 25, 9, 180, 0, 218, 6, 108, 167, 0, 8, 25, 9]
abbrev dktX0_tries_6 : List UInt8 := dkwX0_tries_6 ++ dktX0_tries_7
def dkwX0_tries_5 : List UInt8 := [162, 0, 132, 28, 21, 8, 122, 4, 126, 154, 0, 6, 167, 0, 114, 42, 180, 0, 11, 21, 8, 50, 58, 9]
abbrev dktX0_tries_5 : List UInt8 := dkwX0_tries_5 ++ dktX0_tries_6
def dkwX0_tries_4 : List UInt8 := [180, 0, 130, 3, 42, 180, 0, 133, 3, 27, 184, 1, 125, 3, 54, 8, 21, 8, 42, 180, 0, 196]
abbrev dktX0_tries_4 : List UInt8 := dkwX0_tries_4 ++ dktX0_tries_5
def dkwX0_tries_3 : List UInt8 := [42, 27, 181, 1, 119, 42, 21, 5, 181, 1, 113, 42, 21, 7, 181, 1, 116, 42, 21, 6, 181, 1, 122, 42]
abbrev dktX0_tries_3 : List UInt8 := dkwX0_tries_3 ++ dktX0_tries_4
def dkwX0_tries_2 : List UInt8 := [180, 1, 113, 163, 0, 21, 21, 5, 42, 180, 1, 113, 160, 0, 49, 21, 7, 42, 180, 1, 116, 162, 0, 40]
abbrev dktX0_tries_2 : List UInt8 := dkwX0_tries_2 ++ dktX0_tries_3
def dkwX0_tries_1 : List UInt8 := [180, 0, 25, 163, 0, 12, 21, 6, 42, 180, 0, 29, 164, 0, 4, 177, 27, 153, 0, 30, 21, 5, 42]
abbrev dktX0_tries_1 : List UInt8 := dkwX0_tries_1 ++ dktX0_tries_2
def dkwX0_tries_0 : List UInt8 := [27, 154, 0, 7, 3, 167, 0, 12, 21, 4, 5, 16, 99, 29, 100, 104, 96, 54, 7, 21, 7, 42]
abbrev dktX0_tries_0 : List UInt8 := dkwX0_tries_0 ++ dktX0_tries_1
theorem dksX0_tries_0 : cX0_tries.data.toList.drop 0 = dktX0_tries_0 := by decide +kernel
theorem dksX0_tries_1 : cX0_tries.data.toList.drop 22 = dktX0_tries_1 := dk_seg dksX0_tries_0 22 rfl rfl
theorem dksX0_tries_2 : cX0_tries.data.toList.drop 45 = dktX0_tries_2 := dk_seg dksX0_tries_1 23 rfl rfl
theorem dksX0_tries_3 : cX0_tries.data.toList.drop 69 = dktX0_tries_3 := dk_seg dksX0_tries_2 24 rfl rfl
theorem dksX0_tries_4 : cX0_tries.data.toList.drop 93 = dktX0_tries_4 := dk_seg dksX0_tries_3 24 rfl rfl
theorem dksX0_tries_5 : cX0_tries.data.toList.drop 115 = dktX0_tries_5 := dk_seg dksX0_tries_4 22 rfl rfl
theorem dksX0_tries_6 : cX0_tries.data.toList.drop 139 = dktX0_tries_6 := dk_seg dksX0_tries_5 24 rfl rfl
theorem dksX0_tries_7 : cX0_tries.data.toList.drop 161 = dktX0_tries_7 := dk_seg dksX0_tries_6 22 rfl rfl
theorem dksX0_tries_8 : cX0_tries.data.toList.drop 185 = dktX0_tries_8 := dk_seg dksX0_tries_7 24 rfl rfl
theorem dksX0_tries_9 : cX0_tries.data.toList.drop 209 = dktX0_tries_9 := dk_seg dksX0_tries_8 24 rfl rfl
theorem dksX0_tries_10 : cX0_tries.data.toList.drop 233 = dktX0_tries_10 := dk_seg dksX0_tries_9 24 rfl rfl
theorem dX0_tries_0 : decode cX0_tries 0 = .ok (.iload_n 1, 1) := dk_27 (dk_at dksX0_tries_0 0 rfl rfl)
theorem dX0_tries_1 : decode cX0_tries 1 = .ok (.ifCond .ne 7, 3) := dk_154 0 7 (dk_at dksX0_tries_0 1 rfl rfl)
theorem dX0_tries_4 : decode cX0_tries 4 = .ok (.iconst 0, 1) := dk_3 (dk_at dksX0_tries_0 4 rfl rfl)
theorem dX0_tries_5 : decode cX0_tries 5 = .ok (.goto 12, 3) := dk_167 0 12 (dk_at dksX0_tries_0 5 rfl rfl)
theorem dX0_tries_8 : decode cX0_tries 8 = .ok (.iload 4, 2) := dk_21 4 (dk_at dksX0_tries_0 8 rfl rfl)
theorem dX0_tries_10 : decode cX0_tries 10 = .ok (.iconst 2, 1) := dk_5 (dk_at dksX0_tries_0 10 rfl rfl)
theorem dX0_tries_11 : decode cX0_tries 11 = .ok (.bipush 99, 2) := dk_16 99 (dk_at dksX0_tries_0 11 rfl rfl)
theorem dX0_tries_13 : decode cX0_tries 13 = .ok (.iload_n 3, 1) := dk_29 (dk_at dksX0_tries_0 13 rfl rfl)
theorem dX0_tries_14 : decode cX0_tries 14 = .ok (.isub, 1) := dk_100 (dk_at dksX0_tries_0 14 rfl rfl)
theorem dX0_tries_15 : decode cX0_tries 15 = .ok (.imul, 1) := dk_104 (dk_at dksX0_tries_0 15 rfl rfl)
theorem dX0_tries_16 : decode cX0_tries 16 = .ok (.iadd, 1) := dk_96 (dk_at dksX0_tries_0 16 rfl rfl)
theorem dX0_tries_17 : decode cX0_tries 17 = .ok (.istore 7, 2) := dk_54 7 (dk_at dksX0_tries_0 17 rfl rfl)
theorem dX0_tries_19 : decode cX0_tries 19 = .ok (.iload 7, 2) := dk_21 7 (dk_at dksX0_tries_0 19 rfl rfl)
theorem dX0_tries_21 : decode cX0_tries 21 = .ok (.aload_n 0, 1) := dk_42 (dk_at dksX0_tries_0 21 rfl rfl)
theorem dX0_tries_22 : decode cX0_tries 22 = .ok (.getfield 25, 3) := dk_180 0 25 (dk_at dksX0_tries_1 0 rfl rfl)
theorem dX0_tries_25 : decode cX0_tries 25 = .ok (.if_icmp .gt 12, 3) := dk_163 0 12 (dk_at dksX0_tries_1 3 rfl rfl)
theorem dX0_tries_28 : decode cX0_tries 28 = .ok (.iload 6, 2) := dk_21 6 (dk_at dksX0_tries_1 6 rfl rfl)
theorem dX0_tries_30 : decode cX0_tries 30 = .ok (.aload_n 0, 1) := dk_42 (dk_at dksX0_tries_1 8 rfl rfl)
theorem dX0_tries_31 : decode cX0_tries 31 = .ok (.getfield 29, 3) := dk_180 0 29 (dk_at dksX0_tries_1 9 rfl rfl)
theorem dX0_tries_34 : decode cX0_tries 34 = .ok (.if_icmp .le 4, 3) := dk_164 0 4 (dk_at dksX0_tries_1 12 rfl rfl)
theorem dX0_tries_37 : decode cX0_tries 37 = .ok (.return_, 1) := dk_177 (dk_at dksX0_tries_1 15 rfl rfl)
theorem dX0_tries_38 : decode cX0_tries 38 = .ok (.iload_n 1, 1) := dk_27 (dk_at dksX0_tries_1 16 rfl rfl)
theorem dX0_tries_39 : decode cX0_tries 39 = .ok (.ifCond .eq 30, 3) := dk_153 0 30 (dk_at dksX0_tries_1 17 rfl rfl)
theorem dX0_tries_42 : decode cX0_tries 42 = .ok (.iload 5, 2) := dk_21 5 (dk_at dksX0_tries_1 20 rfl rfl)
theorem dX0_tries_44 : decode cX0_tries 44 = .ok (.aload_n 0, 1) := dk_42 (dk_at dksX0_tries_1 22 rfl rfl)
theorem dX0_tries_45 : decode cX0_tries 45 = .ok (.getfield 369, 3) := dk_180 1 113 (dk_at dksX0_tries_2 0 rfl rfl)
theorem dX0_tries_48 : decode cX0_tries 48 = .ok (.if_icmp .gt 21, 3) := dk_163 0 21 (dk_at dksX0_tries_2 3 rfl rfl)
theorem dX0_tries_51 : decode cX0_tries 51 = .ok (.iload 5, 2) := dk_21 5 (dk_at dksX0_tries_2 6 rfl rfl)
theorem dX0_tries_53 : decode cX0_tries 53 = .ok (.aload_n 0, 1) := dk_42 (dk_at dksX0_tries_2 8 rfl rfl)
theorem dX0_tries_54 : decode cX0_tries 54 = .ok (.getfield 369, 3) := dk_180 1 113 (dk_at dksX0_tries_2 9 rfl rfl)
theorem dX0_tries_57 : decode cX0_tries 57 = .ok (.if_icmp .ne 49, 3) := dk_160 0 49 (dk_at dksX0_tries_2 12 rfl rfl)
theorem dX0_tries_60 : decode cX0_tries 60 = .ok (.iload 7, 2) := dk_21 7 (dk_at dksX0_tries_2 15 rfl rfl)
theorem dX0_tries_62 : decode cX0_tries 62 = .ok (.aload_n 0, 1) := dk_42 (dk_at dksX0_tries_2 17 rfl rfl)
theorem dX0_tries_63 : decode cX0_tries 63 = .ok (.getfield 372, 3) := dk_180 1 116 (dk_at dksX0_tries_2 18 rfl rfl)
theorem dX0_tries_66 : decode cX0_tries 66 = .ok (.if_icmp .ge 40, 3) := dk_162 0 40 (dk_at dksX0_tries_2 21 rfl rfl)
theorem dX0_tries_69 : decode cX0_tries 69 = .ok (.aload_n 0, 1) := dk_42 (dk_at dksX0_tries_3 0 rfl rfl)
theorem dX0_tries_70 : decode cX0_tries 70 = .ok (.iload_n 1, 1) := dk_27 (dk_at dksX0_tries_3 1 rfl rfl)
theorem dX0_tries_71 : decode cX0_tries 71 = .ok (.putfield 375, 3) := dk_181 1 119 (dk_at dksX0_tries_3 2 rfl rfl)
theorem dX0_tries_74 : decode cX0_tries 74 = .ok (.aload_n 0, 1) := dk_42 (dk_at dksX0_tries_3 5 rfl rfl)
theorem dX0_tries_75 : decode cX0_tries 75 = .ok (.iload 5, 2) := dk_21 5 (dk_at dksX0_tries_3 6 rfl rfl)
theorem dX0_tries_77 : decode cX0_tries 77 = .ok (.putfield 369, 3) := dk_181 1 113 (dk_at dksX0_tries_3 8 rfl rfl)
theorem dX0_tries_80 : decode cX0_tries 80 = .ok (.aload_n 0, 1) := dk_42 (dk_at dksX0_tries_3 11 rfl rfl)
theorem dX0_tries_81 : decode cX0_tries 81 = .ok (.iload 7, 2) := dk_21 7 (dk_at dksX0_tries_3 12 rfl rfl)
theorem dX0_tries_83 : decode cX0_tries 83 = .ok (.putfield 372, 3) := dk_181 1 116 (dk_at dksX0_tries_3 14 rfl rfl)
theorem dX0_tries_86 : decode cX0_tries 86 = .ok (.aload_n 0, 1) := dk_42 (dk_at dksX0_tries_3 17 rfl rfl)
theorem dX0_tries_87 : decode cX0_tries 87 = .ok (.iload 6, 2) := dk_21 6 (dk_at dksX0_tries_3 18 rfl rfl)
theorem dX0_tries_89 : decode cX0_tries 89 = .ok (.putfield 378, 3) := dk_181 1 122 (dk_at dksX0_tries_3 20 rfl rfl)
theorem dX0_tries_92 : decode cX0_tries 92 = .ok (.aload_n 0, 1) := dk_42 (dk_at dksX0_tries_3 23 rfl rfl)
theorem dX0_tries_93 : decode cX0_tries 93 = .ok (.getfield 130, 3) := dk_180 0 130 (dk_at dksX0_tries_4 0 rfl rfl)
theorem dX0_tries_96 : decode cX0_tries 96 = .ok (.iconst 0, 1) := dk_3 (dk_at dksX0_tries_4 3 rfl rfl)
theorem dX0_tries_97 : decode cX0_tries 97 = .ok (.aload_n 0, 1) := dk_42 (dk_at dksX0_tries_4 4 rfl rfl)
theorem dX0_tries_98 : decode cX0_tries 98 = .ok (.getfield 133, 3) := dk_180 0 133 (dk_at dksX0_tries_4 5 rfl rfl)
theorem dX0_tries_101 : decode cX0_tries 101 = .ok (.iconst 0, 1) := dk_3 (dk_at dksX0_tries_4 8 rfl rfl)
theorem dX0_tries_102 : decode cX0_tries 102 = .ok (.iload_n 1, 1) := dk_27 (dk_at dksX0_tries_4 9 rfl rfl)
theorem dX0_tries_103 : decode cX0_tries 103 = .ok (.invokestatic 381, 3) := dk_184 1 125 (dk_at dksX0_tries_4 10 rfl rfl)
theorem dX0_tries_106 : decode cX0_tries 106 = .ok (.iconst 0, 1) := dk_3 (dk_at dksX0_tries_4 13 rfl rfl)
theorem dX0_tries_107 : decode cX0_tries 107 = .ok (.istore 8, 2) := dk_54 8 (dk_at dksX0_tries_4 14 rfl rfl)
theorem dX0_tries_109 : decode cX0_tries 109 = .ok (.iload 8, 2) := dk_21 8 (dk_at dksX0_tries_4 16 rfl rfl)
theorem dX0_tries_111 : decode cX0_tries 111 = .ok (.aload_n 0, 1) := dk_42 (dk_at dksX0_tries_4 18 rfl rfl)
theorem dX0_tries_112 : decode cX0_tries 112 = .ok (.getfield 196, 3) := dk_180 0 196 (dk_at dksX0_tries_4 19 rfl rfl)
theorem dX0_tries_115 : decode cX0_tries 115 = .ok (.if_icmp .ge 132, 3) := dk_162 0 132 (dk_at dksX0_tries_5 0 rfl rfl)
theorem dX0_tries_118 : decode cX0_tries 118 = .ok (.iload_n 2, 1) := dk_28 (dk_at dksX0_tries_5 3 rfl rfl)
theorem dX0_tries_119 : decode cX0_tries 119 = .ok (.iload 8, 2) := dk_21 8 (dk_at dksX0_tries_5 4 rfl rfl)
theorem dX0_tries_121 : decode cX0_tries 121 = .ok (.ishr, 1) := dk_122 (dk_at dksX0_tries_5 6 rfl rfl)
theorem dX0_tries_122 : decode cX0_tries 122 = .ok (.iconst 1, 1) := dk_4 (dk_at dksX0_tries_5 7 rfl rfl)
theorem dX0_tries_123 : decode cX0_tries 123 = .ok (.iand, 1) := dk_126 (dk_at dksX0_tries_5 8 rfl rfl)
theorem dX0_tries_124 : decode cX0_tries 124 = .ok (.ifCond .ne 6, 3) := dk_154 0 6 (dk_at dksX0_tries_5 9 rfl rfl)
theorem dX0_tries_127 : decode cX0_tries 127 = .ok (.goto 114, 3) := dk_167 0 114 (dk_at dksX0_tries_5 12 rfl rfl)
theorem dX0_tries_130 : decode cX0_tries 130 = .ok (.aload_n 0, 1) := dk_42 (dk_at dksX0_tries_5 15 rfl rfl)
theorem dX0_tries_131 : decode cX0_tries 131 = .ok (.getfield 11, 3) := dk_180 0 11 (dk_at dksX0_tries_5 16 rfl rfl)
theorem dX0_tries_134 : decode cX0_tries 134 = .ok (.iload 8, 2) := dk_21 8 (dk_at dksX0_tries_5 19 rfl rfl)
theorem dX0_tries_136 : decode cX0_tries 136 = .ok (.aaload, 1) := dk_50 (dk_at dksX0_tries_5 21 rfl rfl)
theorem dX0_tries_137 : decode cX0_tries 137 = .ok (.astore 9, 2) := dk_58 9 (dk_at dksX0_tries_5 22 rfl rfl)
theorem dX0_tries_139 : decode cX0_tries 139 = .ok (.aload_n 0, 1) := dk_42 (dk_at dksX0_tries_6 0 rfl rfl)
theorem dX0_tries_140 : decode cX0_tries 140 = .ok (.iload_n 1, 1) := dk_27 (dk_at dksX0_tries_6 1 rfl rfl)
theorem dX0_tries_141 : decode cX0_tries 141 = .ok (.aload 9, 2) := dk_25 9 (dk_at dksX0_tries_6 2 rfl rfl)
theorem dX0_tries_143 : decode cX0_tries 143 = .ok (.invokevirtual 387, 3) := dk_182 1 131 (dk_at dksX0_tries_6 4 rfl rfl)
theorem dX0_tries_146 : decode cX0_tries 146 = .ok (.ifCond .eq 13, 3) := dk_153 0 13 (dk_at dksX0_tries_6 7 rfl rfl)
theorem dX0_tries_149 : decode cX0_tries 149 = .ok (.aload 9, 2) := dk_25 9 (dk_at dksX0_tries_6 10 rfl rfl)
theorem dX0_tries_151 : decode cX0_tries 151 = .ok (.getfield 218, 3) := dk_180 0 218 (dk_at dksX0_tries_6 12 rfl rfl)
theorem dX0_tries_154 : decode cX0_tries 154 = .ok (.iconst 3, 1) := dk_6 (dk_at dksX0_tries_6 15 rfl rfl)
theorem dX0_tries_155 : decode cX0_tries 155 = .ok (.idiv, 1) := dk_108 (dk_at dksX0_tries_6 16 rfl rfl)
theorem dX0_tries_156 : decode cX0_tries 156 = .ok (.goto 8, 3) := dk_167 0 8 (dk_at dksX0_tries_6 17 rfl rfl)
theorem dX0_tries_159 : decode cX0_tries 159 = .ok (.aload 9, 2) := dk_25 9 (dk_at dksX0_tries_6 20 rfl rfl)
theorem dX0_tries_161 : decode cX0_tries 161 = .ok (.getfield 218, 3) := dk_180 0 218 (dk_at dksX0_tries_7 0 rfl rfl)
theorem dX0_tries_164 : decode cX0_tries 164 = .ok (.istore 10, 2) := dk_54 10 (dk_at dksX0_tries_7 3 rfl rfl)
theorem dX0_tries_166 : decode cX0_tries 166 = .ok (.aload_n 0, 1) := dk_42 (dk_at dksX0_tries_7 5 rfl rfl)
theorem dX0_tries_167 : decode cX0_tries 167 = .ok (.getfield 130, 3) := dk_180 0 130 (dk_at dksX0_tries_7 6 rfl rfl)
theorem dX0_tries_170 : decode cX0_tries 170 = .ok (.iload_n 1, 1) := dk_27 (dk_at dksX0_tries_7 9 rfl rfl)
theorem dX0_tries_171 : decode cX0_tries 171 = .ok (.iload 8, 2) := dk_21 8 (dk_at dksX0_tries_7 10 rfl rfl)
theorem dX0_tries_173 : decode cX0_tries 173 = .ok (.iastore, 1) := dk_79 (dk_at dksX0_tries_7 12 rfl rfl)
theorem dX0_tries_174 : decode cX0_tries 174 = .ok (.aload_n 0, 1) := dk_42 (dk_at dksX0_tries_7 13 rfl rfl)
theorem dX0_tries_175 : decode cX0_tries 175 = .ok (.iload_n 1, 1) := dk_27 (dk_at dksX0_tries_7 14 rfl rfl)
theorem dX0_tries_176 : decode cX0_tries 176 = .ok (.iconst 1, 1) := dk_4 (dk_at dksX0_tries_7 15 rfl rfl)
theorem dX0_tries_177 : decode cX0_tries 177 = .ok (.iadd, 1) := dk_96 (dk_at dksX0_tries_7 16 rfl rfl)
theorem dX0_tries_178 : decode cX0_tries 178 = .ok (.iload_n 2, 1) := dk_28 (dk_at dksX0_tries_7 17 rfl rfl)
theorem dX0_tries_179 : decode cX0_tries 179 = .ok (.iconst 1, 1) := dk_4 (dk_at dksX0_tries_7 18 rfl rfl)
theorem dX0_tries_180 : decode cX0_tries 180 = .ok (.iload 8, 2) := dk_21 8 (dk_at dksX0_tries_7 19 rfl rfl)
theorem dX0_tries_182 : decode cX0_tries 182 = .ok (.ishl, 1) := dk_120 (dk_at dksX0_tries_7 21 rfl rfl)
theorem dX0_tries_183 : decode cX0_tries 183 = .ok (.iconst (-1), 1) := dk_2 (dk_at dksX0_tries_7 22 rfl rfl)
theorem dX0_tries_184 : decode cX0_tries 184 = .ok (.ixor, 1) := dk_130 (dk_at dksX0_tries_7 23 rfl rfl)
theorem dX0_tries_185 : decode cX0_tries 185 = .ok (.iand, 1) := dk_126 (dk_at dksX0_tries_8 0 rfl rfl)
theorem dX0_tries_186 : decode cX0_tries 186 = .ok (.aload 9, 2) := dk_25 9 (dk_at dksX0_tries_8 1 rfl rfl)
theorem dX0_tries_188 : decode cX0_tries 188 = .ok (.getfield 209, 3) := dk_180 0 209 (dk_at dksX0_tries_8 3 rfl rfl)
theorem dX0_tries_191 : decode cX0_tries 191 = .ok (.iload 4, 2) := dk_21 4 (dk_at dksX0_tries_8 6 rfl rfl)
theorem dX0_tries_193 : decode cX0_tries 193 = .ok (.iconst 2, 1) := dk_5 (dk_at dksX0_tries_8 8 rfl rfl)
theorem dX0_tries_194 : decode cX0_tries 194 = .ok (.iload_n 3, 1) := dk_29 (dk_at dksX0_tries_8 9 rfl rfl)
theorem dX0_tries_195 : decode cX0_tries 195 = .ok (.aload 9, 2) := dk_25 9 (dk_at dksX0_tries_8 10 rfl rfl)
theorem dX0_tries_197 : decode cX0_tries 197 = .ok (.getfield 209, 3) := dk_180 0 209 (dk_at dksX0_tries_8 12 rfl rfl)
theorem dX0_tries_200 : decode cX0_tries 200 = .ok (.isub, 1) := dk_100 (dk_at dksX0_tries_8 15 rfl rfl)
theorem dX0_tries_201 : decode cX0_tries 201 = .ok (.invokestatic 353, 3) := dk_184 1 97 (dk_at dksX0_tries_8 16 rfl rfl)
theorem dX0_tries_204 : decode cX0_tries 204 = .ok (.imul, 1) := dk_104 (dk_at dksX0_tries_8 19 rfl rfl)
theorem dX0_tries_205 : decode cX0_tries 205 = .ok (.iadd, 1) := dk_96 (dk_at dksX0_tries_8 20 rfl rfl)
theorem dX0_tries_206 : decode cX0_tries 206 = .ok (.bipush 15, 2) := dk_16 15 (dk_at dksX0_tries_8 21 rfl rfl)
theorem dX0_tries_208 : decode cX0_tries 208 = .ok (.iadd, 1) := dk_96 (dk_at dksX0_tries_8 23 rfl rfl)
theorem dX0_tries_209 : decode cX0_tries 209 = .ok (.aload_n 0, 1) := dk_42 (dk_at dksX0_tries_9 0 rfl rfl)
theorem dX0_tries_210 : decode cX0_tries 210 = .ok (.getfield 127, 3) := dk_180 0 127 (dk_at dksX0_tries_9 1 rfl rfl)
theorem dX0_tries_213 : decode cX0_tries 213 = .ok (.iload 8, 2) := dk_21 8 (dk_at dksX0_tries_9 4 rfl rfl)
theorem dX0_tries_215 : decode cX0_tries 215 = .ok (.iaload, 1) := dk_46 (dk_at dksX0_tries_9 6 rfl rfl)
theorem dX0_tries_216 : decode cX0_tries 216 = .ok (.bipush 9, 2) := dk_16 9 (dk_at dksX0_tries_9 7 rfl rfl)
theorem dX0_tries_218 : decode cX0_tries 218 = .ok (.iadd, 1) := dk_96 (dk_at dksX0_tries_9 9 rfl rfl)
theorem dX0_tries_219 : decode cX0_tries 219 = .ok (.bipush 10, 2) := dk_16 10 (dk_at dksX0_tries_9 10 rfl rfl)
theorem dX0_tries_221 : decode cX0_tries 221 = .ok (.idiv, 1) := dk_108 (dk_at dksX0_tries_9 12 rfl rfl)
theorem dX0_tries_222 : decode cX0_tries 222 = .ok (.iadd, 1) := dk_96 (dk_at dksX0_tries_9 13 rfl rfl)
theorem dX0_tries_223 : decode cX0_tries 223 = .ok (.iload 5, 2) := dk_21 5 (dk_at dksX0_tries_9 14 rfl rfl)
theorem dX0_tries_225 : decode cX0_tries 225 = .ok (.aload_n 0, 1) := dk_42 (dk_at dksX0_tries_9 16 rfl rfl)
theorem dX0_tries_226 : decode cX0_tries 226 = .ok (.getfield 127, 3) := dk_180 0 127 (dk_at dksX0_tries_9 17 rfl rfl)
theorem dX0_tries_229 : decode cX0_tries 229 = .ok (.iload 8, 2) := dk_21 8 (dk_at dksX0_tries_9 20 rfl rfl)
theorem dX0_tries_231 : decode cX0_tries 231 = .ok (.iaload, 1) := dk_46 (dk_at dksX0_tries_9 22 rfl rfl)
theorem dX0_tries_232 : decode cX0_tries 232 = .ok (.iadd, 1) := dk_96 (dk_at dksX0_tries_9 23 rfl rfl)
theorem dX0_tries_233 : decode cX0_tries 233 = .ok (.iload 6, 2) := dk_21 6 (dk_at dksX0_tries_10 0 rfl rfl)
theorem dX0_tries_235 : decode cX0_tries 235 = .ok (.iload 10, 2) := dk_21 10 (dk_at dksX0_tries_10 2 rfl rfl)
theorem dX0_tries_237 : decode cX0_tries 237 = .ok (.iadd, 1) := dk_96 (dk_at dksX0_tries_10 4 rfl rfl)
theorem dX0_tries_238 : decode cX0_tries 238 = .ok (.invokevirtual 391, 3) := dk_182 1 135 (dk_at dksX0_tries_10 5 rfl rfl)
theorem dX0_tries_241 : decode cX0_tries 241 = .ok (.iinc 8 1, 3) := dk_132 8 1 (dk_at dksX0_tries_10 8 rfl rfl)
theorem dX0_tries_244 : decode cX0_tries 244 = .ok (.goto (-135), 3) := dk_167 255 121 (dk_at dksX0_tries_10 11 rfl rfl)
theorem dX0_tries_247 : decode cX0_tries 247 = .ok (.return_, 1) := dk_177 (dk_at dksX0_tries_10 14 rfl rfl)
abbrev cX0_isSmoked : ByteArray := prog_1_method_37_code
def yX0_isSmoked : MethodName := ⟨RX0, "isSmoked", "(ILCliffHoney$Ledge;)Z"⟩
def dkwX0_isSmoked_2 : List UInt8 := [100, 184, 1, 97, 4, 163, 0, 5, 4, 172, 132, 3, 1, 167, 255, 199, 3, 172]
abbrev dktX0_isSmoked_2 : List UInt8 := dkwX0_isSmoked_2 ++ []
def dkwX0_isSmoked_1 : List UInt8 := [180, 0, 209, 44, 180, 0, 209, 162, 0, 27, 25, 4, 180, 0, 206, 44, 180, 0, 206, 42, 180, 1, 7, 100]
abbrev dktX0_isSmoked_1 : List UInt8 := dkwX0_isSmoked_1 ++ dktX0_isSmoked_2
def dkwX0_isSmoked_0 : List UInt8 := [3, 62, 29, 27, 162, 0, 58, 42, 180, 0, 11, 42, 180, 0, 130, 29, 46, 50, 58, 4, 25, 4]
abbrev dktX0_isSmoked_0 : List UInt8 := dkwX0_isSmoked_0 ++ dktX0_isSmoked_1
theorem dksX0_isSmoked_0 : cX0_isSmoked.data.toList.drop 0 = dktX0_isSmoked_0 := by decide +kernel
theorem dksX0_isSmoked_1 : cX0_isSmoked.data.toList.drop 22 = dktX0_isSmoked_1 := dk_seg dksX0_isSmoked_0 22 rfl rfl
theorem dksX0_isSmoked_2 : cX0_isSmoked.data.toList.drop 46 = dktX0_isSmoked_2 := dk_seg dksX0_isSmoked_1 24 rfl rfl
theorem dX0_isSmoked_0 : decode cX0_isSmoked 0 = .ok (.iconst 0, 1) := dk_3 (dk_at dksX0_isSmoked_0 0 rfl rfl)
theorem dX0_isSmoked_1 : decode cX0_isSmoked 1 = .ok (.istore_n 3, 1) := dk_62 (dk_at dksX0_isSmoked_0 1 rfl rfl)
theorem dX0_isSmoked_2 : decode cX0_isSmoked 2 = .ok (.iload_n 3, 1) := dk_29 (dk_at dksX0_isSmoked_0 2 rfl rfl)
theorem dX0_isSmoked_3 : decode cX0_isSmoked 3 = .ok (.iload_n 1, 1) := dk_27 (dk_at dksX0_isSmoked_0 3 rfl rfl)
theorem dX0_isSmoked_4 : decode cX0_isSmoked 4 = .ok (.if_icmp .ge 58, 3) := dk_162 0 58 (dk_at dksX0_isSmoked_0 4 rfl rfl)
theorem dX0_isSmoked_7 : decode cX0_isSmoked 7 = .ok (.aload_n 0, 1) := dk_42 (dk_at dksX0_isSmoked_0 7 rfl rfl)
theorem dX0_isSmoked_8 : decode cX0_isSmoked 8 = .ok (.getfield 11, 3) := dk_180 0 11 (dk_at dksX0_isSmoked_0 8 rfl rfl)
theorem dX0_isSmoked_11 : decode cX0_isSmoked 11 = .ok (.aload_n 0, 1) := dk_42 (dk_at dksX0_isSmoked_0 11 rfl rfl)
theorem dX0_isSmoked_12 : decode cX0_isSmoked 12 = .ok (.getfield 130, 3) := dk_180 0 130 (dk_at dksX0_isSmoked_0 12 rfl rfl)
theorem dX0_isSmoked_15 : decode cX0_isSmoked 15 = .ok (.iload_n 3, 1) := dk_29 (dk_at dksX0_isSmoked_0 15 rfl rfl)
theorem dX0_isSmoked_16 : decode cX0_isSmoked 16 = .ok (.iaload, 1) := dk_46 (dk_at dksX0_isSmoked_0 16 rfl rfl)
theorem dX0_isSmoked_17 : decode cX0_isSmoked 17 = .ok (.aaload, 1) := dk_50 (dk_at dksX0_isSmoked_0 17 rfl rfl)
theorem dX0_isSmoked_18 : decode cX0_isSmoked 18 = .ok (.astore 4, 2) := dk_58 4 (dk_at dksX0_isSmoked_0 18 rfl rfl)
theorem dX0_isSmoked_20 : decode cX0_isSmoked 20 = .ok (.aload 4, 2) := dk_25 4 (dk_at dksX0_isSmoked_0 20 rfl rfl)
theorem dX0_isSmoked_22 : decode cX0_isSmoked 22 = .ok (.getfield 209, 3) := dk_180 0 209 (dk_at dksX0_isSmoked_1 0 rfl rfl)
theorem dX0_isSmoked_25 : decode cX0_isSmoked 25 = .ok (.aload_n 2, 1) := dk_44 (dk_at dksX0_isSmoked_1 3 rfl rfl)
theorem dX0_isSmoked_26 : decode cX0_isSmoked 26 = .ok (.getfield 209, 3) := dk_180 0 209 (dk_at dksX0_isSmoked_1 4 rfl rfl)
theorem dX0_isSmoked_29 : decode cX0_isSmoked 29 = .ok (.if_icmp .ge 27, 3) := dk_162 0 27 (dk_at dksX0_isSmoked_1 7 rfl rfl)
theorem dX0_isSmoked_32 : decode cX0_isSmoked 32 = .ok (.aload 4, 2) := dk_25 4 (dk_at dksX0_isSmoked_1 10 rfl rfl)
theorem dX0_isSmoked_34 : decode cX0_isSmoked 34 = .ok (.getfield 206, 3) := dk_180 0 206 (dk_at dksX0_isSmoked_1 12 rfl rfl)
theorem dX0_isSmoked_37 : decode cX0_isSmoked 37 = .ok (.aload_n 2, 1) := dk_44 (dk_at dksX0_isSmoked_1 15 rfl rfl)
theorem dX0_isSmoked_38 : decode cX0_isSmoked 38 = .ok (.getfield 206, 3) := dk_180 0 206 (dk_at dksX0_isSmoked_1 16 rfl rfl)
theorem dX0_isSmoked_41 : decode cX0_isSmoked 41 = .ok (.aload_n 0, 1) := dk_42 (dk_at dksX0_isSmoked_1 19 rfl rfl)
theorem dX0_isSmoked_42 : decode cX0_isSmoked 42 = .ok (.getfield 263, 3) := dk_180 1 7 (dk_at dksX0_isSmoked_1 20 rfl rfl)
theorem dX0_isSmoked_45 : decode cX0_isSmoked 45 = .ok (.isub, 1) := dk_100 (dk_at dksX0_isSmoked_1 23 rfl rfl)
theorem dX0_isSmoked_46 : decode cX0_isSmoked 46 = .ok (.isub, 1) := dk_100 (dk_at dksX0_isSmoked_2 0 rfl rfl)
theorem dX0_isSmoked_47 : decode cX0_isSmoked 47 = .ok (.invokestatic 353, 3) := dk_184 1 97 (dk_at dksX0_isSmoked_2 1 rfl rfl)
theorem dX0_isSmoked_50 : decode cX0_isSmoked 50 = .ok (.iconst 1, 1) := dk_4 (dk_at dksX0_isSmoked_2 4 rfl rfl)
theorem dX0_isSmoked_51 : decode cX0_isSmoked 51 = .ok (.if_icmp .gt 5, 3) := dk_163 0 5 (dk_at dksX0_isSmoked_2 5 rfl rfl)
theorem dX0_isSmoked_54 : decode cX0_isSmoked 54 = .ok (.iconst 1, 1) := dk_4 (dk_at dksX0_isSmoked_2 8 rfl rfl)
theorem dX0_isSmoked_55 : decode cX0_isSmoked 55 = .ok (.ireturn, 1) := dk_172 (dk_at dksX0_isSmoked_2 9 rfl rfl)
theorem dX0_isSmoked_56 : decode cX0_isSmoked 56 = .ok (.iinc 3 1, 3) := dk_132 3 1 (dk_at dksX0_isSmoked_2 10 rfl rfl)
theorem dX0_isSmoked_59 : decode cX0_isSmoked 59 = .ok (.goto (-57), 3) := dk_167 255 199 (dk_at dksX0_isSmoked_2 13 rfl rfl)
theorem dX0_isSmoked_62 : decode cX0_isSmoked 62 = .ok (.iconst 0, 1) := dk_3 (dk_at dksX0_isSmoked_2 16 rfl rfl)
theorem dX0_isSmoked_63 : decode cX0_isSmoked 63 = .ok (.ireturn, 1) := dk_172 (dk_at dksX0_isSmoked_2 17 rfl rfl)
abbrev cX0_person : ByteArray := prog_1_method_43_code
def yX0_person : MethodName := ⟨RX0, "person", "(I)I"⟩
def dkwX0_person_3 : List UInt8 := [172]
abbrev dktX0_person_3 : List UInt8 := dkwX0_person_3 ++ []
def dkwX0_person_2 : List UInt8 := [42, 42, 180, 0, 203, 181, 0, 142, 42, 89, 180, 0, 203, 4, 96, 181, 0, 203, 42, 180, 0, 203, 4, 100]
abbrev dktX0_person_2 : List UInt8 := dkwX0_person_2 ++ dktX0_person_3
def dkwX0_person_1 : List UInt8 := [180, 0, 138, 42, 180, 0, 203, 187, 0, 136, 89, 27, 183, 1, 146, 83, 42, 180, 0, 142, 2, 160, 0, 11]
abbrev dktX0_person_1 : List UInt8 := dkwX0_person_1 ++ dktX0_person_2
def dkwX0_person_0 : List UInt8 := [27, 16, 30, 16, 120, 184, 0, 199, 153, 0, 12, 42, 180, 0, 203, 16, 16, 160, 0, 5, 2, 172, 42]
abbrev dktX0_person_0 : List UInt8 := dkwX0_person_0 ++ dktX0_person_1
theorem dksX0_person_0 : cX0_person.data.toList.drop 0 = dktX0_person_0 := by decide +kernel
theorem dksX0_person_1 : cX0_person.data.toList.drop 23 = dktX0_person_1 := dk_seg dksX0_person_0 23 rfl rfl
theorem dksX0_person_2 : cX0_person.data.toList.drop 47 = dktX0_person_2 := dk_seg dksX0_person_1 24 rfl rfl
theorem dksX0_person_3 : cX0_person.data.toList.drop 71 = dktX0_person_3 := dk_seg dksX0_person_2 24 rfl rfl
theorem dX0_person_0 : decode cX0_person 0 = .ok (.iload_n 1, 1) := dk_27 (dk_at dksX0_person_0 0 rfl rfl)
theorem dX0_person_1 : decode cX0_person 1 = .ok (.bipush 30, 2) := dk_16 30 (dk_at dksX0_person_0 1 rfl rfl)
theorem dX0_person_3 : decode cX0_person 3 = .ok (.bipush 120, 2) := dk_16 120 (dk_at dksX0_person_0 3 rfl rfl)
theorem dX0_person_5 : decode cX0_person 5 = .ok (.invokestatic 199, 3) := dk_184 0 199 (dk_at dksX0_person_0 5 rfl rfl)
theorem dX0_person_8 : decode cX0_person 8 = .ok (.ifCond .eq 12, 3) := dk_153 0 12 (dk_at dksX0_person_0 8 rfl rfl)
theorem dX0_person_11 : decode cX0_person 11 = .ok (.aload_n 0, 1) := dk_42 (dk_at dksX0_person_0 11 rfl rfl)
theorem dX0_person_12 : decode cX0_person 12 = .ok (.getfield 203, 3) := dk_180 0 203 (dk_at dksX0_person_0 12 rfl rfl)
theorem dX0_person_15 : decode cX0_person 15 = .ok (.bipush 16, 2) := dk_16 16 (dk_at dksX0_person_0 15 rfl rfl)
theorem dX0_person_17 : decode cX0_person 17 = .ok (.if_icmp .ne 5, 3) := dk_160 0 5 (dk_at dksX0_person_0 17 rfl rfl)
theorem dX0_person_20 : decode cX0_person 20 = .ok (.iconst (-1), 1) := dk_2 (dk_at dksX0_person_0 20 rfl rfl)
theorem dX0_person_21 : decode cX0_person 21 = .ok (.ireturn, 1) := dk_172 (dk_at dksX0_person_0 21 rfl rfl)
theorem dX0_person_22 : decode cX0_person 22 = .ok (.aload_n 0, 1) := dk_42 (dk_at dksX0_person_0 22 rfl rfl)
theorem dX0_person_23 : decode cX0_person 23 = .ok (.getfield 138, 3) := dk_180 0 138 (dk_at dksX0_person_1 0 rfl rfl)
theorem dX0_person_26 : decode cX0_person 26 = .ok (.aload_n 0, 1) := dk_42 (dk_at dksX0_person_1 3 rfl rfl)
theorem dX0_person_27 : decode cX0_person 27 = .ok (.getfield 203, 3) := dk_180 0 203 (dk_at dksX0_person_1 4 rfl rfl)
theorem dX0_person_30 : decode cX0_person 30 = .ok (.new 136, 3) := dk_187 0 136 (dk_at dksX0_person_1 7 rfl rfl)
theorem dX0_person_33 : decode cX0_person 33 = .ok (.dup, 1) := dk_89 (dk_at dksX0_person_1 10 rfl rfl)
theorem dX0_person_34 : decode cX0_person 34 = .ok (.iload_n 1, 1) := dk_27 (dk_at dksX0_person_1 11 rfl rfl)
theorem dX0_person_35 : decode cX0_person 35 = .ok (.invokespecial 402, 3) := dk_183 1 146 (dk_at dksX0_person_1 12 rfl rfl)
theorem dX0_person_38 : decode cX0_person 38 = .ok (.aastore, 1) := dk_83 (dk_at dksX0_person_1 15 rfl rfl)
theorem dX0_person_39 : decode cX0_person 39 = .ok (.aload_n 0, 1) := dk_42 (dk_at dksX0_person_1 16 rfl rfl)
theorem dX0_person_40 : decode cX0_person 40 = .ok (.getfield 142, 3) := dk_180 0 142 (dk_at dksX0_person_1 17 rfl rfl)
theorem dX0_person_43 : decode cX0_person 43 = .ok (.iconst (-1), 1) := dk_2 (dk_at dksX0_person_1 20 rfl rfl)
theorem dX0_person_44 : decode cX0_person 44 = .ok (.if_icmp .ne 11, 3) := dk_160 0 11 (dk_at dksX0_person_1 21 rfl rfl)
theorem dX0_person_47 : decode cX0_person 47 = .ok (.aload_n 0, 1) := dk_42 (dk_at dksX0_person_2 0 rfl rfl)
theorem dX0_person_48 : decode cX0_person 48 = .ok (.aload_n 0, 1) := dk_42 (dk_at dksX0_person_2 1 rfl rfl)
theorem dX0_person_49 : decode cX0_person 49 = .ok (.getfield 203, 3) := dk_180 0 203 (dk_at dksX0_person_2 2 rfl rfl)
theorem dX0_person_52 : decode cX0_person 52 = .ok (.putfield 142, 3) := dk_181 0 142 (dk_at dksX0_person_2 5 rfl rfl)
theorem dX0_person_55 : decode cX0_person 55 = .ok (.aload_n 0, 1) := dk_42 (dk_at dksX0_person_2 8 rfl rfl)
theorem dX0_person_56 : decode cX0_person 56 = .ok (.dup, 1) := dk_89 (dk_at dksX0_person_2 9 rfl rfl)
theorem dX0_person_57 : decode cX0_person 57 = .ok (.getfield 203, 3) := dk_180 0 203 (dk_at dksX0_person_2 10 rfl rfl)
theorem dX0_person_60 : decode cX0_person 60 = .ok (.iconst 1, 1) := dk_4 (dk_at dksX0_person_2 13 rfl rfl)
theorem dX0_person_61 : decode cX0_person 61 = .ok (.iadd, 1) := dk_96 (dk_at dksX0_person_2 14 rfl rfl)
theorem dX0_person_62 : decode cX0_person 62 = .ok (.putfield 203, 3) := dk_181 0 203 (dk_at dksX0_person_2 15 rfl rfl)
theorem dX0_person_65 : decode cX0_person 65 = .ok (.aload_n 0, 1) := dk_42 (dk_at dksX0_person_2 18 rfl rfl)
theorem dX0_person_66 : decode cX0_person 66 = .ok (.getfield 203, 3) := dk_180 0 203 (dk_at dksX0_person_2 19 rfl rfl)
theorem dX0_person_69 : decode cX0_person 69 = .ok (.iconst 1, 1) := dk_4 (dk_at dksX0_person_2 22 rfl rfl)
theorem dX0_person_70 : decode cX0_person 70 = .ok (.isub, 1) := dk_100 (dk_at dksX0_person_2 23 rfl rfl)
theorem dX0_person_71 : decode cX0_person 71 = .ok (.ireturn, 1) := dk_172 (dk_at dksX0_person_3 0 rfl rfl)
abbrev cX0_heir : ByteArray := prog_1_method_44_code
def yX0_heir : MethodName := ⟨RX0, "heir", "(II)Z"⟩
def dkwX0_heir_1 : List UInt8 := [160, 0, 5, 3, 172, 42, 180, 0, 138, 27, 50, 28, 181, 1, 148, 4, 172]
abbrev dktX0_heir_1 : List UInt8 := dkwX0_heir_1 ++ []
def dkwX0_heir_0 : List UInt8 := [42, 27, 182, 1, 100, 153, 0, 21, 28, 2, 159, 0, 11, 42, 28, 182, 1, 100, 153, 0, 8, 27, 28]
abbrev dktX0_heir_0 : List UInt8 := dkwX0_heir_0 ++ dktX0_heir_1
theorem dksX0_heir_0 : cX0_heir.data.toList.drop 0 = dktX0_heir_0 := by decide +kernel
theorem dksX0_heir_1 : cX0_heir.data.toList.drop 23 = dktX0_heir_1 := dk_seg dksX0_heir_0 23 rfl rfl
theorem dX0_heir_0 : decode cX0_heir 0 = .ok (.aload_n 0, 1) := dk_42 (dk_at dksX0_heir_0 0 rfl rfl)
theorem dX0_heir_1 : decode cX0_heir 1 = .ok (.iload_n 1, 1) := dk_27 (dk_at dksX0_heir_0 1 rfl rfl)
theorem dX0_heir_2 : decode cX0_heir 2 = .ok (.invokevirtual 356, 3) := dk_182 1 100 (dk_at dksX0_heir_0 2 rfl rfl)
theorem dX0_heir_5 : decode cX0_heir 5 = .ok (.ifCond .eq 21, 3) := dk_153 0 21 (dk_at dksX0_heir_0 5 rfl rfl)
theorem dX0_heir_8 : decode cX0_heir 8 = .ok (.iload_n 2, 1) := dk_28 (dk_at dksX0_heir_0 8 rfl rfl)
theorem dX0_heir_9 : decode cX0_heir 9 = .ok (.iconst (-1), 1) := dk_2 (dk_at dksX0_heir_0 9 rfl rfl)
theorem dX0_heir_10 : decode cX0_heir 10 = .ok (.if_icmp .eq 11, 3) := dk_159 0 11 (dk_at dksX0_heir_0 10 rfl rfl)
theorem dX0_heir_13 : decode cX0_heir 13 = .ok (.aload_n 0, 1) := dk_42 (dk_at dksX0_heir_0 13 rfl rfl)
theorem dX0_heir_14 : decode cX0_heir 14 = .ok (.iload_n 2, 1) := dk_28 (dk_at dksX0_heir_0 14 rfl rfl)
theorem dX0_heir_15 : decode cX0_heir 15 = .ok (.invokevirtual 356, 3) := dk_182 1 100 (dk_at dksX0_heir_0 15 rfl rfl)
theorem dX0_heir_18 : decode cX0_heir 18 = .ok (.ifCond .eq 8, 3) := dk_153 0 8 (dk_at dksX0_heir_0 18 rfl rfl)
theorem dX0_heir_21 : decode cX0_heir 21 = .ok (.iload_n 1, 1) := dk_27 (dk_at dksX0_heir_0 21 rfl rfl)
theorem dX0_heir_22 : decode cX0_heir 22 = .ok (.iload_n 2, 1) := dk_28 (dk_at dksX0_heir_0 22 rfl rfl)
theorem dX0_heir_23 : decode cX0_heir 23 = .ok (.if_icmp .ne 5, 3) := dk_160 0 5 (dk_at dksX0_heir_1 0 rfl rfl)
theorem dX0_heir_26 : decode cX0_heir 26 = .ok (.iconst 0, 1) := dk_3 (dk_at dksX0_heir_1 3 rfl rfl)
theorem dX0_heir_27 : decode cX0_heir 27 = .ok (.ireturn, 1) := dk_172 (dk_at dksX0_heir_1 4 rfl rfl)
theorem dX0_heir_28 : decode cX0_heir 28 = .ok (.aload_n 0, 1) := dk_42 (dk_at dksX0_heir_1 5 rfl rfl)
theorem dX0_heir_29 : decode cX0_heir 29 = .ok (.getfield 138, 3) := dk_180 0 138 (dk_at dksX0_heir_1 6 rfl rfl)
theorem dX0_heir_32 : decode cX0_heir 32 = .ok (.iload_n 1, 1) := dk_27 (dk_at dksX0_heir_1 9 rfl rfl)
theorem dX0_heir_33 : decode cX0_heir 33 = .ok (.aaload, 1) := dk_50 (dk_at dksX0_heir_1 10 rfl rfl)
theorem dX0_heir_34 : decode cX0_heir 34 = .ok (.iload_n 2, 1) := dk_28 (dk_at dksX0_heir_1 11 rfl rfl)
theorem dX0_heir_35 : decode cX0_heir 35 = .ok (.putfield 404, 3) := dk_181 1 148 (dk_at dksX0_heir_1 12 rfl rfl)
theorem dX0_heir_38 : decode cX0_heir 38 = .ok (.iconst 1, 1) := dk_4 (dk_at dksX0_heir_1 15 rfl rfl)
theorem dX0_heir_39 : decode cX0_heir 39 = .ok (.ireturn, 1) := dk_172 (dk_at dksX0_heir_1 16 rfl rfl)
abbrev cX0_dies : ByteArray := prog_1_method_46_code
def yX0_dies : MethodName := ⟨RX0, "dies", "(I)Z"⟩
def dkwX0_dies_1 : List UInt8 := [27, 160, 0, 12, 42, 42, 27, 182, 1, 153, 181, 0, 142, 4, 172]
abbrev dktX0_dies_1 : List UInt8 := dkwX0_dies_1 ++ []
def dkwX0_dies_0 : List UInt8 := [42, 27, 182, 1, 151, 154, 0, 5, 3, 172, 42, 180, 0, 138, 27, 50, 3, 181, 1, 143, 42, 180, 0, 142]
abbrev dktX0_dies_0 : List UInt8 := dkwX0_dies_0 ++ dktX0_dies_1
theorem dksX0_dies_0 : cX0_dies.data.toList.drop 0 = dktX0_dies_0 := by decide +kernel
theorem dksX0_dies_1 : cX0_dies.data.toList.drop 24 = dktX0_dies_1 := dk_seg dksX0_dies_0 24 rfl rfl
theorem dX0_dies_0 : decode cX0_dies 0 = .ok (.aload_n 0, 1) := dk_42 (dk_at dksX0_dies_0 0 rfl rfl)
theorem dX0_dies_1 : decode cX0_dies 1 = .ok (.iload_n 1, 1) := dk_27 (dk_at dksX0_dies_0 1 rfl rfl)
theorem dX0_dies_2 : decode cX0_dies 2 = .ok (.invokevirtual 407, 3) := dk_182 1 151 (dk_at dksX0_dies_0 2 rfl rfl)
theorem dX0_dies_5 : decode cX0_dies 5 = .ok (.ifCond .ne 5, 3) := dk_154 0 5 (dk_at dksX0_dies_0 5 rfl rfl)
theorem dX0_dies_8 : decode cX0_dies 8 = .ok (.iconst 0, 1) := dk_3 (dk_at dksX0_dies_0 8 rfl rfl)
theorem dX0_dies_9 : decode cX0_dies 9 = .ok (.ireturn, 1) := dk_172 (dk_at dksX0_dies_0 9 rfl rfl)
theorem dX0_dies_10 : decode cX0_dies 10 = .ok (.aload_n 0, 1) := dk_42 (dk_at dksX0_dies_0 10 rfl rfl)
theorem dX0_dies_11 : decode cX0_dies 11 = .ok (.getfield 138, 3) := dk_180 0 138 (dk_at dksX0_dies_0 11 rfl rfl)
theorem dX0_dies_14 : decode cX0_dies 14 = .ok (.iload_n 1, 1) := dk_27 (dk_at dksX0_dies_0 14 rfl rfl)
theorem dX0_dies_15 : decode cX0_dies 15 = .ok (.aaload, 1) := dk_50 (dk_at dksX0_dies_0 15 rfl rfl)
theorem dX0_dies_16 : decode cX0_dies 16 = .ok (.iconst 0, 1) := dk_3 (dk_at dksX0_dies_0 16 rfl rfl)
theorem dX0_dies_17 : decode cX0_dies 17 = .ok (.putfield 399, 3) := dk_181 1 143 (dk_at dksX0_dies_0 17 rfl rfl)
theorem dX0_dies_20 : decode cX0_dies 20 = .ok (.aload_n 0, 1) := dk_42 (dk_at dksX0_dies_0 20 rfl rfl)
theorem dX0_dies_21 : decode cX0_dies 21 = .ok (.getfield 142, 3) := dk_180 0 142 (dk_at dksX0_dies_0 21 rfl rfl)
theorem dX0_dies_24 : decode cX0_dies 24 = .ok (.iload_n 1, 1) := dk_27 (dk_at dksX0_dies_1 0 rfl rfl)
theorem dX0_dies_25 : decode cX0_dies 25 = .ok (.if_icmp .ne 12, 3) := dk_160 0 12 (dk_at dksX0_dies_1 1 rfl rfl)
theorem dX0_dies_28 : decode cX0_dies 28 = .ok (.aload_n 0, 1) := dk_42 (dk_at dksX0_dies_1 4 rfl rfl)
theorem dX0_dies_29 : decode cX0_dies 29 = .ok (.aload_n 0, 1) := dk_42 (dk_at dksX0_dies_1 5 rfl rfl)
theorem dX0_dies_30 : decode cX0_dies 30 = .ok (.iload_n 1, 1) := dk_27 (dk_at dksX0_dies_1 6 rfl rfl)
theorem dX0_dies_31 : decode cX0_dies 31 = .ok (.invokevirtual 409, 3) := dk_182 1 153 (dk_at dksX0_dies_1 7 rfl rfl)
theorem dX0_dies_34 : decode cX0_dies 34 = .ok (.putfield 142, 3) := dk_181 0 142 (dk_at dksX0_dies_1 10 rfl rfl)
theorem dX0_dies_37 : decode cX0_dies 37 = .ok (.iconst 1, 1) := dk_4 (dk_at dksX0_dies_1 13 rfl rfl)
theorem dX0_dies_38 : decode cX0_dies 38 = .ok (.ireturn, 1) := dk_172 (dk_at dksX0_dies_1 14 rfl rfl)
abbrev cX0_isAlive : ByteArray := prog_1_method_42_code
def yX0_isAlive : MethodName := ⟨RX0, "isAlive", "(I)Z"⟩
def dkwX0_isAlive_1 : List UInt8 := [3, 172]
abbrev dktX0_isAlive_1 : List UInt8 := dkwX0_isAlive_1 ++ []
def dkwX0_isAlive_0 : List UInt8 := [42, 27, 182, 1, 100, 153, 0, 19, 42, 180, 0, 138, 27, 50, 180, 1, 143, 153, 0, 7, 4, 167, 0, 4]
abbrev dktX0_isAlive_0 : List UInt8 := dkwX0_isAlive_0 ++ dktX0_isAlive_1
theorem dksX0_isAlive_0 : cX0_isAlive.data.toList.drop 0 = dktX0_isAlive_0 := by decide +kernel
theorem dksX0_isAlive_1 : cX0_isAlive.data.toList.drop 24 = dktX0_isAlive_1 := dk_seg dksX0_isAlive_0 24 rfl rfl
theorem dX0_isAlive_0 : decode cX0_isAlive 0 = .ok (.aload_n 0, 1) := dk_42 (dk_at dksX0_isAlive_0 0 rfl rfl)
theorem dX0_isAlive_1 : decode cX0_isAlive 1 = .ok (.iload_n 1, 1) := dk_27 (dk_at dksX0_isAlive_0 1 rfl rfl)
theorem dX0_isAlive_2 : decode cX0_isAlive 2 = .ok (.invokevirtual 356, 3) := dk_182 1 100 (dk_at dksX0_isAlive_0 2 rfl rfl)
theorem dX0_isAlive_5 : decode cX0_isAlive 5 = .ok (.ifCond .eq 19, 3) := dk_153 0 19 (dk_at dksX0_isAlive_0 5 rfl rfl)
theorem dX0_isAlive_8 : decode cX0_isAlive 8 = .ok (.aload_n 0, 1) := dk_42 (dk_at dksX0_isAlive_0 8 rfl rfl)
theorem dX0_isAlive_9 : decode cX0_isAlive 9 = .ok (.getfield 138, 3) := dk_180 0 138 (dk_at dksX0_isAlive_0 9 rfl rfl)
theorem dX0_isAlive_12 : decode cX0_isAlive 12 = .ok (.iload_n 1, 1) := dk_27 (dk_at dksX0_isAlive_0 12 rfl rfl)
theorem dX0_isAlive_13 : decode cX0_isAlive 13 = .ok (.aaload, 1) := dk_50 (dk_at dksX0_isAlive_0 13 rfl rfl)
theorem dX0_isAlive_14 : decode cX0_isAlive 14 = .ok (.getfield 399, 3) := dk_180 1 143 (dk_at dksX0_isAlive_0 14 rfl rfl)
theorem dX0_isAlive_17 : decode cX0_isAlive 17 = .ok (.ifCond .eq 7, 3) := dk_153 0 7 (dk_at dksX0_isAlive_0 17 rfl rfl)
theorem dX0_isAlive_20 : decode cX0_isAlive 20 = .ok (.iconst 1, 1) := dk_4 (dk_at dksX0_isAlive_0 20 rfl rfl)
theorem dX0_isAlive_21 : decode cX0_isAlive 21 = .ok (.goto 4, 3) := dk_167 0 4 (dk_at dksX0_isAlive_0 21 rfl rfl)
theorem dX0_isAlive_24 : decode cX0_isAlive 24 = .ok (.iconst 0, 1) := dk_3 (dk_at dksX0_isAlive_1 0 rfl rfl)
theorem dX0_isAlive_25 : decode cX0_isAlive 25 = .ok (.ireturn, 1) := dk_172 (dk_at dksX0_isAlive_1 1 rfl rfl)
abbrev cX0_behind : ByteArray := prog_1_method_45_code
def yX0_behind : MethodName := ⟨RX0, "behind", "(I)I"⟩
def dkwX0_behind_3 : List UInt8 := [42, 180, 0, 138, 21, 4, 50, 180, 1, 143, 153, 0, 6, 21, 4, 172, 132, 4, 1, 167, 255, 228, 2, 172]
abbrev dktX0_behind_3 : List UInt8 := dkwX0_behind_3 ++ []
def dkwX0_behind_2 : List UInt8 := [180, 0, 138, 29, 50, 180, 1, 148, 62, 167, 255, 213, 3, 54, 4, 21, 4, 42, 180, 0, 203, 162, 0, 25]
abbrev dktX0_behind_2 : List UInt8 := dkwX0_behind_2 ++ dktX0_behind_3
def dkwX0_behind_1 : List UInt8 := [154, 0, 36, 42, 180, 0, 138, 29, 50, 180, 1, 143, 153, 0, 5, 29, 172, 28, 4, 29, 120, 128, 61, 42]
abbrev dktX0_behind_1 : List UInt8 := dkwX0_behind_1 ++ dktX0_behind_2
def dkwX0_behind_0 : List UInt8 := [4, 27, 120, 61, 42, 180, 0, 138, 27, 50, 180, 1, 148, 62, 29, 2, 159, 0, 44, 28, 29, 122, 4, 126]
abbrev dktX0_behind_0 : List UInt8 := dkwX0_behind_0 ++ dktX0_behind_1
theorem dksX0_behind_0 : cX0_behind.data.toList.drop 0 = dktX0_behind_0 := by decide +kernel
theorem dksX0_behind_1 : cX0_behind.data.toList.drop 24 = dktX0_behind_1 := dk_seg dksX0_behind_0 24 rfl rfl
theorem dksX0_behind_2 : cX0_behind.data.toList.drop 48 = dktX0_behind_2 := dk_seg dksX0_behind_1 24 rfl rfl
theorem dksX0_behind_3 : cX0_behind.data.toList.drop 72 = dktX0_behind_3 := dk_seg dksX0_behind_2 24 rfl rfl
theorem dX0_behind_0 : decode cX0_behind 0 = .ok (.iconst 1, 1) := dk_4 (dk_at dksX0_behind_0 0 rfl rfl)
theorem dX0_behind_1 : decode cX0_behind 1 = .ok (.iload_n 1, 1) := dk_27 (dk_at dksX0_behind_0 1 rfl rfl)
theorem dX0_behind_2 : decode cX0_behind 2 = .ok (.ishl, 1) := dk_120 (dk_at dksX0_behind_0 2 rfl rfl)
theorem dX0_behind_3 : decode cX0_behind 3 = .ok (.istore_n 2, 1) := dk_61 (dk_at dksX0_behind_0 3 rfl rfl)
theorem dX0_behind_4 : decode cX0_behind 4 = .ok (.aload_n 0, 1) := dk_42 (dk_at dksX0_behind_0 4 rfl rfl)
theorem dX0_behind_5 : decode cX0_behind 5 = .ok (.getfield 138, 3) := dk_180 0 138 (dk_at dksX0_behind_0 5 rfl rfl)
theorem dX0_behind_8 : decode cX0_behind 8 = .ok (.iload_n 1, 1) := dk_27 (dk_at dksX0_behind_0 8 rfl rfl)
theorem dX0_behind_9 : decode cX0_behind 9 = .ok (.aaload, 1) := dk_50 (dk_at dksX0_behind_0 9 rfl rfl)
theorem dX0_behind_10 : decode cX0_behind 10 = .ok (.getfield 404, 3) := dk_180 1 148 (dk_at dksX0_behind_0 10 rfl rfl)
theorem dX0_behind_13 : decode cX0_behind 13 = .ok (.istore_n 3, 1) := dk_62 (dk_at dksX0_behind_0 13 rfl rfl)
theorem dX0_behind_14 : decode cX0_behind 14 = .ok (.iload_n 3, 1) := dk_29 (dk_at dksX0_behind_0 14 rfl rfl)
theorem dX0_behind_15 : decode cX0_behind 15 = .ok (.iconst (-1), 1) := dk_2 (dk_at dksX0_behind_0 15 rfl rfl)
theorem dX0_behind_16 : decode cX0_behind 16 = .ok (.if_icmp .eq 44, 3) := dk_159 0 44 (dk_at dksX0_behind_0 16 rfl rfl)
theorem dX0_behind_19 : decode cX0_behind 19 = .ok (.iload_n 2, 1) := dk_28 (dk_at dksX0_behind_0 19 rfl rfl)
theorem dX0_behind_20 : decode cX0_behind 20 = .ok (.iload_n 3, 1) := dk_29 (dk_at dksX0_behind_0 20 rfl rfl)
theorem dX0_behind_21 : decode cX0_behind 21 = .ok (.ishr, 1) := dk_122 (dk_at dksX0_behind_0 21 rfl rfl)
theorem dX0_behind_22 : decode cX0_behind 22 = .ok (.iconst 1, 1) := dk_4 (dk_at dksX0_behind_0 22 rfl rfl)
theorem dX0_behind_23 : decode cX0_behind 23 = .ok (.iand, 1) := dk_126 (dk_at dksX0_behind_0 23 rfl rfl)
theorem dX0_behind_24 : decode cX0_behind 24 = .ok (.ifCond .ne 36, 3) := dk_154 0 36 (dk_at dksX0_behind_1 0 rfl rfl)
theorem dX0_behind_27 : decode cX0_behind 27 = .ok (.aload_n 0, 1) := dk_42 (dk_at dksX0_behind_1 3 rfl rfl)
theorem dX0_behind_28 : decode cX0_behind 28 = .ok (.getfield 138, 3) := dk_180 0 138 (dk_at dksX0_behind_1 4 rfl rfl)
theorem dX0_behind_31 : decode cX0_behind 31 = .ok (.iload_n 3, 1) := dk_29 (dk_at dksX0_behind_1 7 rfl rfl)
theorem dX0_behind_32 : decode cX0_behind 32 = .ok (.aaload, 1) := dk_50 (dk_at dksX0_behind_1 8 rfl rfl)
theorem dX0_behind_33 : decode cX0_behind 33 = .ok (.getfield 399, 3) := dk_180 1 143 (dk_at dksX0_behind_1 9 rfl rfl)
theorem dX0_behind_36 : decode cX0_behind 36 = .ok (.ifCond .eq 5, 3) := dk_153 0 5 (dk_at dksX0_behind_1 12 rfl rfl)
theorem dX0_behind_39 : decode cX0_behind 39 = .ok (.iload_n 3, 1) := dk_29 (dk_at dksX0_behind_1 15 rfl rfl)
theorem dX0_behind_40 : decode cX0_behind 40 = .ok (.ireturn, 1) := dk_172 (dk_at dksX0_behind_1 16 rfl rfl)
theorem dX0_behind_41 : decode cX0_behind 41 = .ok (.iload_n 2, 1) := dk_28 (dk_at dksX0_behind_1 17 rfl rfl)
theorem dX0_behind_42 : decode cX0_behind 42 = .ok (.iconst 1, 1) := dk_4 (dk_at dksX0_behind_1 18 rfl rfl)
theorem dX0_behind_43 : decode cX0_behind 43 = .ok (.iload_n 3, 1) := dk_29 (dk_at dksX0_behind_1 19 rfl rfl)
theorem dX0_behind_44 : decode cX0_behind 44 = .ok (.ishl, 1) := dk_120 (dk_at dksX0_behind_1 20 rfl rfl)
theorem dX0_behind_45 : decode cX0_behind 45 = .ok (.ior, 1) := dk_128 (dk_at dksX0_behind_1 21 rfl rfl)
theorem dX0_behind_46 : decode cX0_behind 46 = .ok (.istore_n 2, 1) := dk_61 (dk_at dksX0_behind_1 22 rfl rfl)
theorem dX0_behind_47 : decode cX0_behind 47 = .ok (.aload_n 0, 1) := dk_42 (dk_at dksX0_behind_1 23 rfl rfl)
theorem dX0_behind_48 : decode cX0_behind 48 = .ok (.getfield 138, 3) := dk_180 0 138 (dk_at dksX0_behind_2 0 rfl rfl)
theorem dX0_behind_51 : decode cX0_behind 51 = .ok (.iload_n 3, 1) := dk_29 (dk_at dksX0_behind_2 3 rfl rfl)
theorem dX0_behind_52 : decode cX0_behind 52 = .ok (.aaload, 1) := dk_50 (dk_at dksX0_behind_2 4 rfl rfl)
theorem dX0_behind_53 : decode cX0_behind 53 = .ok (.getfield 404, 3) := dk_180 1 148 (dk_at dksX0_behind_2 5 rfl rfl)
theorem dX0_behind_56 : decode cX0_behind 56 = .ok (.istore_n 3, 1) := dk_62 (dk_at dksX0_behind_2 8 rfl rfl)
theorem dX0_behind_57 : decode cX0_behind 57 = .ok (.goto (-43), 3) := dk_167 255 213 (dk_at dksX0_behind_2 9 rfl rfl)
theorem dX0_behind_60 : decode cX0_behind 60 = .ok (.iconst 0, 1) := dk_3 (dk_at dksX0_behind_2 12 rfl rfl)
theorem dX0_behind_61 : decode cX0_behind 61 = .ok (.istore 4, 2) := dk_54 4 (dk_at dksX0_behind_2 13 rfl rfl)
theorem dX0_behind_63 : decode cX0_behind 63 = .ok (.iload 4, 2) := dk_21 4 (dk_at dksX0_behind_2 15 rfl rfl)
theorem dX0_behind_65 : decode cX0_behind 65 = .ok (.aload_n 0, 1) := dk_42 (dk_at dksX0_behind_2 17 rfl rfl)
theorem dX0_behind_66 : decode cX0_behind 66 = .ok (.getfield 203, 3) := dk_180 0 203 (dk_at dksX0_behind_2 18 rfl rfl)
theorem dX0_behind_69 : decode cX0_behind 69 = .ok (.if_icmp .ge 25, 3) := dk_162 0 25 (dk_at dksX0_behind_2 21 rfl rfl)
theorem dX0_behind_72 : decode cX0_behind 72 = .ok (.aload_n 0, 1) := dk_42 (dk_at dksX0_behind_3 0 rfl rfl)
theorem dX0_behind_73 : decode cX0_behind 73 = .ok (.getfield 138, 3) := dk_180 0 138 (dk_at dksX0_behind_3 1 rfl rfl)
theorem dX0_behind_76 : decode cX0_behind 76 = .ok (.iload 4, 2) := dk_21 4 (dk_at dksX0_behind_3 4 rfl rfl)
theorem dX0_behind_78 : decode cX0_behind 78 = .ok (.aaload, 1) := dk_50 (dk_at dksX0_behind_3 6 rfl rfl)
theorem dX0_behind_79 : decode cX0_behind 79 = .ok (.getfield 399, 3) := dk_180 1 143 (dk_at dksX0_behind_3 7 rfl rfl)
theorem dX0_behind_82 : decode cX0_behind 82 = .ok (.ifCond .eq 6, 3) := dk_153 0 6 (dk_at dksX0_behind_3 10 rfl rfl)
theorem dX0_behind_85 : decode cX0_behind 85 = .ok (.iload 4, 2) := dk_21 4 (dk_at dksX0_behind_3 13 rfl rfl)
theorem dX0_behind_87 : decode cX0_behind 87 = .ok (.ireturn, 1) := dk_172 (dk_at dksX0_behind_3 15 rfl rfl)
theorem dX0_behind_88 : decode cX0_behind 88 = .ok (.iinc 4 1, 3) := dk_132 4 1 (dk_at dksX0_behind_3 16 rfl rfl)
theorem dX0_behind_91 : decode cX0_behind 91 = .ok (.goto (-28), 3) := dk_167 255 228 (dk_at dksX0_behind_3 19 rfl rfl)
theorem dX0_behind_94 : decode cX0_behind 94 = .ok (.iconst (-1), 1) := dk_2 (dk_at dksX0_behind_3 22 rfl rfl)
theorem dX0_behind_95 : decode cX0_behind 95 = .ok (.ireturn, 1) := dk_172 (dk_at dksX0_behind_3 23 rfl rfl)
abbrev cX0_gives : ByteArray := prog_1_method_47_code
def yX0_gives : MethodName := ⟨RX0, "gives", "(I)Z"⟩
def dkwX0_gives_1 : List UInt8 := [172]
abbrev dktX0_gives_1 : List UInt8 := dkwX0_gives_1 ++ []
def dkwX0_gives_0 : List UInt8 := [42, 27, 182, 1, 151, 153, 0, 11, 42, 180, 0, 142, 27, 160, 0, 5, 3, 172, 42, 27, 181, 0, 142, 4]
abbrev dktX0_gives_0 : List UInt8 := dkwX0_gives_0 ++ dktX0_gives_1
theorem dksX0_gives_0 : cX0_gives.data.toList.drop 0 = dktX0_gives_0 := by decide +kernel
theorem dksX0_gives_1 : cX0_gives.data.toList.drop 24 = dktX0_gives_1 := dk_seg dksX0_gives_0 24 rfl rfl
theorem dX0_gives_0 : decode cX0_gives 0 = .ok (.aload_n 0, 1) := dk_42 (dk_at dksX0_gives_0 0 rfl rfl)
theorem dX0_gives_1 : decode cX0_gives 1 = .ok (.iload_n 1, 1) := dk_27 (dk_at dksX0_gives_0 1 rfl rfl)
theorem dX0_gives_2 : decode cX0_gives 2 = .ok (.invokevirtual 407, 3) := dk_182 1 151 (dk_at dksX0_gives_0 2 rfl rfl)
theorem dX0_gives_5 : decode cX0_gives 5 = .ok (.ifCond .eq 11, 3) := dk_153 0 11 (dk_at dksX0_gives_0 5 rfl rfl)
theorem dX0_gives_8 : decode cX0_gives 8 = .ok (.aload_n 0, 1) := dk_42 (dk_at dksX0_gives_0 8 rfl rfl)
theorem dX0_gives_9 : decode cX0_gives 9 = .ok (.getfield 142, 3) := dk_180 0 142 (dk_at dksX0_gives_0 9 rfl rfl)
theorem dX0_gives_12 : decode cX0_gives 12 = .ok (.iload_n 1, 1) := dk_27 (dk_at dksX0_gives_0 12 rfl rfl)
theorem dX0_gives_13 : decode cX0_gives 13 = .ok (.if_icmp .ne 5, 3) := dk_160 0 5 (dk_at dksX0_gives_0 13 rfl rfl)
theorem dX0_gives_16 : decode cX0_gives 16 = .ok (.iconst 0, 1) := dk_3 (dk_at dksX0_gives_0 16 rfl rfl)
theorem dX0_gives_17 : decode cX0_gives 17 = .ok (.ireturn, 1) := dk_172 (dk_at dksX0_gives_0 17 rfl rfl)
theorem dX0_gives_18 : decode cX0_gives 18 = .ok (.aload_n 0, 1) := dk_42 (dk_at dksX0_gives_0 18 rfl rfl)
theorem dX0_gives_19 : decode cX0_gives 19 = .ok (.iload_n 1, 1) := dk_27 (dk_at dksX0_gives_0 19 rfl rfl)
theorem dX0_gives_20 : decode cX0_gives 20 = .ok (.putfield 142, 3) := dk_181 0 142 (dk_at dksX0_gives_0 20 rfl rfl)
theorem dX0_gives_23 : decode cX0_gives 23 = .ok (.iconst 1, 1) := dk_4 (dk_at dksX0_gives_0 23 rfl rfl)
theorem dX0_gives_24 : decode cX0_gives 24 = .ok (.ireturn, 1) := dk_172 (dk_at dksX0_gives_1 0 rfl rfl)
abbrev cX0_whoIs : ByteArray := prog_1_method_48_code
def yX0_whoIs : MethodName := ⟨RX0, "whoIs", "(II)I"⟩
def dkwX0_whoIs_3 : List UInt8 := [180, 1, 156, 172, 45, 180, 1, 159, 172, 2, 172]
abbrev dktX0_whoIs_3 : List UInt8 := dkwX0_whoIs_3 ++ []
def dkwX0_whoIs_2 : List UInt8 := [45, 180, 1, 106, 172, 45, 180, 1, 148, 172, 45, 180, 1, 143, 153, 0, 7, 4, 167, 0, 4, 3, 172, 45]
abbrev dktX0_whoIs_2 : List UInt8 := dkwX0_whoIs_2 ++ dktX0_whoIs_3
def dkwX0_whoIs_1 : List UInt8 := [170, 0, 0, 0, 0, 67, 0, 0, 0, 0, 0, 0, 0, 4, 0, 0, 0, 34, 0, 0, 0, 39, 0, 0, 0, 44, 0, 0, 0, 57, 0, 0, 0, 62]
abbrev dktX0_whoIs_1 : List UInt8 := dkwX0_whoIs_1 ++ dktX0_whoIs_2
def dkwX0_whoIs_0 : List UInt8 := [42, 27, 182, 1, 100, 154, 0, 5, 2, 172, 42, 180, 0, 138, 27, 50, 78, 28]
abbrev dktX0_whoIs_0 : List UInt8 := dkwX0_whoIs_0 ++ dktX0_whoIs_1
theorem dksX0_whoIs_0 : cX0_whoIs.data.toList.drop 0 = dktX0_whoIs_0 := by decide +kernel
theorem dksX0_whoIs_1 : cX0_whoIs.data.toList.drop 18 = dktX0_whoIs_1 := dk_seg dksX0_whoIs_0 18 rfl rfl
theorem dksX0_whoIs_2 : cX0_whoIs.data.toList.drop 52 = dktX0_whoIs_2 := dk_seg dksX0_whoIs_1 34 rfl rfl
theorem dksX0_whoIs_3 : cX0_whoIs.data.toList.drop 76 = dktX0_whoIs_3 := dk_seg dksX0_whoIs_2 24 rfl rfl
theorem dX0_whoIs_0 : decode cX0_whoIs 0 = .ok (.aload_n 0, 1) := dk_42 (dk_at dksX0_whoIs_0 0 rfl rfl)
theorem dX0_whoIs_1 : decode cX0_whoIs 1 = .ok (.iload_n 1, 1) := dk_27 (dk_at dksX0_whoIs_0 1 rfl rfl)
theorem dX0_whoIs_2 : decode cX0_whoIs 2 = .ok (.invokevirtual 356, 3) := dk_182 1 100 (dk_at dksX0_whoIs_0 2 rfl rfl)
theorem dX0_whoIs_5 : decode cX0_whoIs 5 = .ok (.ifCond .ne 5, 3) := dk_154 0 5 (dk_at dksX0_whoIs_0 5 rfl rfl)
theorem dX0_whoIs_8 : decode cX0_whoIs 8 = .ok (.iconst (-1), 1) := dk_2 (dk_at dksX0_whoIs_0 8 rfl rfl)
theorem dX0_whoIs_9 : decode cX0_whoIs 9 = .ok (.ireturn, 1) := dk_172 (dk_at dksX0_whoIs_0 9 rfl rfl)
theorem dX0_whoIs_10 : decode cX0_whoIs 10 = .ok (.aload_n 0, 1) := dk_42 (dk_at dksX0_whoIs_0 10 rfl rfl)
theorem dX0_whoIs_11 : decode cX0_whoIs 11 = .ok (.getfield 138, 3) := dk_180 0 138 (dk_at dksX0_whoIs_0 11 rfl rfl)
theorem dX0_whoIs_14 : decode cX0_whoIs 14 = .ok (.iload_n 1, 1) := dk_27 (dk_at dksX0_whoIs_0 14 rfl rfl)
theorem dX0_whoIs_15 : decode cX0_whoIs 15 = .ok (.aaload, 1) := dk_50 (dk_at dksX0_whoIs_0 15 rfl rfl)
theorem dX0_whoIs_16 : decode cX0_whoIs 16 = .ok (.astore_n 3, 1) := dk_78 (dk_at dksX0_whoIs_0 16 rfl rfl)
theorem dX0_whoIs_17 : decode cX0_whoIs 17 = .ok (.iload_n 2, 1) := dk_28 (dk_at dksX0_whoIs_0 17 rfl rfl)
theorem dX0_whoIs_18 : decode cX0_whoIs 18 = .ok (.tableswitch 67 0 4 #[34, 39, 44, 57, 62], 34) := by decide +kernel
theorem dX0_whoIs_52 : decode cX0_whoIs 52 = .ok (.aload_n 3, 1) := dk_45 (dk_at dksX0_whoIs_2 0 rfl rfl)
theorem dX0_whoIs_53 : decode cX0_whoIs 53 = .ok (.getfield 362, 3) := dk_180 1 106 (dk_at dksX0_whoIs_2 1 rfl rfl)
theorem dX0_whoIs_56 : decode cX0_whoIs 56 = .ok (.ireturn, 1) := dk_172 (dk_at dksX0_whoIs_2 4 rfl rfl)
theorem dX0_whoIs_57 : decode cX0_whoIs 57 = .ok (.aload_n 3, 1) := dk_45 (dk_at dksX0_whoIs_2 5 rfl rfl)
theorem dX0_whoIs_58 : decode cX0_whoIs 58 = .ok (.getfield 404, 3) := dk_180 1 148 (dk_at dksX0_whoIs_2 6 rfl rfl)
theorem dX0_whoIs_61 : decode cX0_whoIs 61 = .ok (.ireturn, 1) := dk_172 (dk_at dksX0_whoIs_2 9 rfl rfl)
theorem dX0_whoIs_62 : decode cX0_whoIs 62 = .ok (.aload_n 3, 1) := dk_45 (dk_at dksX0_whoIs_2 10 rfl rfl)
theorem dX0_whoIs_63 : decode cX0_whoIs 63 = .ok (.getfield 399, 3) := dk_180 1 143 (dk_at dksX0_whoIs_2 11 rfl rfl)
theorem dX0_whoIs_66 : decode cX0_whoIs 66 = .ok (.ifCond .eq 7, 3) := dk_153 0 7 (dk_at dksX0_whoIs_2 14 rfl rfl)
theorem dX0_whoIs_69 : decode cX0_whoIs 69 = .ok (.iconst 1, 1) := dk_4 (dk_at dksX0_whoIs_2 17 rfl rfl)
theorem dX0_whoIs_70 : decode cX0_whoIs 70 = .ok (.goto 4, 3) := dk_167 0 4 (dk_at dksX0_whoIs_2 18 rfl rfl)
theorem dX0_whoIs_73 : decode cX0_whoIs 73 = .ok (.iconst 0, 1) := dk_3 (dk_at dksX0_whoIs_2 21 rfl rfl)
theorem dX0_whoIs_74 : decode cX0_whoIs 74 = .ok (.ireturn, 1) := dk_172 (dk_at dksX0_whoIs_2 22 rfl rfl)
theorem dX0_whoIs_75 : decode cX0_whoIs 75 = .ok (.aload_n 3, 1) := dk_45 (dk_at dksX0_whoIs_2 23 rfl rfl)
theorem dX0_whoIs_76 : decode cX0_whoIs 76 = .ok (.getfield 412, 3) := dk_180 1 156 (dk_at dksX0_whoIs_3 0 rfl rfl)
theorem dX0_whoIs_79 : decode cX0_whoIs 79 = .ok (.ireturn, 1) := dk_172 (dk_at dksX0_whoIs_3 3 rfl rfl)
theorem dX0_whoIs_80 : decode cX0_whoIs 80 = .ok (.aload_n 3, 1) := dk_45 (dk_at dksX0_whoIs_3 4 rfl rfl)
theorem dX0_whoIs_81 : decode cX0_whoIs 81 = .ok (.getfield 415, 3) := dk_180 1 159 (dk_at dksX0_whoIs_3 5 rfl rfl)
theorem dX0_whoIs_84 : decode cX0_whoIs 84 = .ok (.ireturn, 1) := dk_172 (dk_at dksX0_whoIs_3 8 rfl rfl)
theorem dX0_whoIs_85 : decode cX0_whoIs 85 = .ok (.iconst (-1), 1) := dk_2 (dk_at dksX0_whoIs_3 9 rfl rfl)
theorem dX0_whoIs_86 : decode cX0_whoIs 86 = .ok (.ireturn, 1) := dk_172 (dk_at dksX0_whoIs_3 10 rfl rfl)
abbrev cX0_cut : ByteArray := prog_1_method_51_code
def yX0_cut : MethodName := ⟨RX0, "cut", "(IIII)I"⟩
def dkwX0_cut_9 : List UInt8 := [180, 0, 138, 21, 4, 50, 89, 180, 1, 156, 4, 96, 181, 1, 156, 42, 25, 8, 182, 1, 173, 172]
abbrev dktX0_cut_9 : List UInt8 := dkwX0_cut_9 ++ []
def dkwX0_cut_8 : List UInt8 := [180, 1, 170, 3, 16, 12, 184, 1, 125, 42, 89, 180, 1, 21, 42, 180, 1, 113, 96, 181, 1, 21, 42]
abbrev dktX0_cut_8 : List UInt8 := dkwX0_cut_8 ++ dktX0_cut_9
def dkwX0_cut_7 : List UInt8 := [42, 180, 1, 113, 42, 180, 0, 193, 22, 5, 29, 21, 4, 183, 1, 167, 58, 8, 25, 7, 3, 25, 8]
abbrev dktX0_cut_7 : List UInt8 := dkwX0_cut_7 ++ dktX0_cut_8
def dkwX0_cut_6 : List UInt8 := [180, 0, 127, 21, 9, 46, 100, 182, 1, 162, 97, 55, 5, 132, 8, 1, 167, 255, 190, 187, 1, 165, 89, 42]
abbrev dktX0_cut_6 : List UInt8 := dkwX0_cut_6 ++ dktX0_cut_7
def dkwX0_cut_5 : List UInt8 := [21, 9, 46, 79, 22, 5, 42, 180, 0, 11, 21, 9, 50, 42, 180, 0, 11, 21, 9, 50, 180, 0, 220, 42]
abbrev dktX0_cut_5 : List UInt8 := dkwX0_cut_5 ++ dktX0_cut_6
def dkwX0_cut_4 : List UInt8 := [180, 1, 119, 162, 0, 63, 42, 180, 0, 133, 21, 8, 46, 54, 9, 25, 7, 21, 9, 42, 180, 0, 127]
abbrev dktX0_cut_4 : List UInt8 := dkwX0_cut_4 ++ dktX0_cut_5
def dkwX0_cut_3 : List UInt8 := [42, 180, 1, 119, 154, 0, 5, 2, 172, 9, 55, 5, 16, 12, 188, 10, 58, 7, 3, 54, 8, 21, 8, 42]
abbrev dktX0_cut_3 : List UInt8 := dkwX0_cut_3 ++ dktX0_cut_4
def dkwX0_cut_2 : List UInt8 := [21, 4, 29, 159, 0, 12, 42, 180, 1, 12, 16, 40, 160, 0, 5, 2, 172, 42, 27, 28, 29, 182, 1, 139]
abbrev dktX0_cut_2 : List UInt8 := dkwX0_cut_2 ++ dktX0_cut_3
def dkwX0_cut_1 : List UInt8 := [180, 1, 156, 42, 180, 0, 117, 3, 50, 180, 1, 63, 161, 0, 27, 42, 21, 4, 182, 1, 151, 153, 0, 18]
abbrev dktX0_cut_1 : List UInt8 := dkwX0_cut_1 ++ dktX0_cut_2
def dkwX0_cut_0 : List UInt8 := [42, 27, 28, 29, 182, 1, 103, 153, 0, 56, 29, 42, 180, 0, 142, 160, 0, 48, 42, 180, 0, 138, 29, 50]
abbrev dktX0_cut_0 : List UInt8 := dkwX0_cut_0 ++ dktX0_cut_1
theorem dksX0_cut_0 : cX0_cut.data.toList.drop 0 = dktX0_cut_0 := by decide +kernel
theorem dksX0_cut_1 : cX0_cut.data.toList.drop 24 = dktX0_cut_1 := dk_seg dksX0_cut_0 24 rfl rfl
theorem dksX0_cut_2 : cX0_cut.data.toList.drop 48 = dktX0_cut_2 := dk_seg dksX0_cut_1 24 rfl rfl
theorem dksX0_cut_3 : cX0_cut.data.toList.drop 72 = dktX0_cut_3 := dk_seg dksX0_cut_2 24 rfl rfl
theorem dksX0_cut_4 : cX0_cut.data.toList.drop 96 = dktX0_cut_4 := dk_seg dksX0_cut_3 24 rfl rfl
theorem dksX0_cut_5 : cX0_cut.data.toList.drop 119 = dktX0_cut_5 := dk_seg dksX0_cut_4 23 rfl rfl
theorem dksX0_cut_6 : cX0_cut.data.toList.drop 143 = dktX0_cut_6 := dk_seg dksX0_cut_5 24 rfl rfl
theorem dksX0_cut_7 : cX0_cut.data.toList.drop 167 = dktX0_cut_7 := dk_seg dksX0_cut_6 24 rfl rfl
theorem dksX0_cut_8 : cX0_cut.data.toList.drop 190 = dktX0_cut_8 := dk_seg dksX0_cut_7 23 rfl rfl
theorem dksX0_cut_9 : cX0_cut.data.toList.drop 213 = dktX0_cut_9 := dk_seg dksX0_cut_8 23 rfl rfl
theorem dX0_cut_0 : decode cX0_cut 0 = .ok (.aload_n 0, 1) := dk_42 (dk_at dksX0_cut_0 0 rfl rfl)
theorem dX0_cut_1 : decode cX0_cut 1 = .ok (.iload_n 1, 1) := dk_27 (dk_at dksX0_cut_0 1 rfl rfl)
theorem dX0_cut_2 : decode cX0_cut 2 = .ok (.iload_n 2, 1) := dk_28 (dk_at dksX0_cut_0 2 rfl rfl)
theorem dX0_cut_3 : decode cX0_cut 3 = .ok (.iload_n 3, 1) := dk_29 (dk_at dksX0_cut_0 3 rfl rfl)
theorem dX0_cut_4 : decode cX0_cut 4 = .ok (.invokevirtual 359, 3) := dk_182 1 103 (dk_at dksX0_cut_0 4 rfl rfl)
theorem dX0_cut_7 : decode cX0_cut 7 = .ok (.ifCond .eq 56, 3) := dk_153 0 56 (dk_at dksX0_cut_0 7 rfl rfl)
theorem dX0_cut_10 : decode cX0_cut 10 = .ok (.iload_n 3, 1) := dk_29 (dk_at dksX0_cut_0 10 rfl rfl)
theorem dX0_cut_11 : decode cX0_cut 11 = .ok (.aload_n 0, 1) := dk_42 (dk_at dksX0_cut_0 11 rfl rfl)
theorem dX0_cut_12 : decode cX0_cut 12 = .ok (.getfield 142, 3) := dk_180 0 142 (dk_at dksX0_cut_0 12 rfl rfl)
theorem dX0_cut_15 : decode cX0_cut 15 = .ok (.if_icmp .ne 48, 3) := dk_160 0 48 (dk_at dksX0_cut_0 15 rfl rfl)
theorem dX0_cut_18 : decode cX0_cut 18 = .ok (.aload_n 0, 1) := dk_42 (dk_at dksX0_cut_0 18 rfl rfl)
theorem dX0_cut_19 : decode cX0_cut 19 = .ok (.getfield 138, 3) := dk_180 0 138 (dk_at dksX0_cut_0 19 rfl rfl)
theorem dX0_cut_22 : decode cX0_cut 22 = .ok (.iload_n 3, 1) := dk_29 (dk_at dksX0_cut_0 22 rfl rfl)
theorem dX0_cut_23 : decode cX0_cut 23 = .ok (.aaload, 1) := dk_50 (dk_at dksX0_cut_0 23 rfl rfl)
theorem dX0_cut_24 : decode cX0_cut 24 = .ok (.getfield 412, 3) := dk_180 1 156 (dk_at dksX0_cut_1 0 rfl rfl)
theorem dX0_cut_27 : decode cX0_cut 27 = .ok (.aload_n 0, 1) := dk_42 (dk_at dksX0_cut_1 3 rfl rfl)
theorem dX0_cut_28 : decode cX0_cut 28 = .ok (.getfield 117, 3) := dk_180 0 117 (dk_at dksX0_cut_1 4 rfl rfl)
theorem dX0_cut_31 : decode cX0_cut 31 = .ok (.iconst 0, 1) := dk_3 (dk_at dksX0_cut_1 7 rfl rfl)
theorem dX0_cut_32 : decode cX0_cut 32 = .ok (.aaload, 1) := dk_50 (dk_at dksX0_cut_1 8 rfl rfl)
theorem dX0_cut_33 : decode cX0_cut 33 = .ok (.getfield 319, 3) := dk_180 1 63 (dk_at dksX0_cut_1 9 rfl rfl)
theorem dX0_cut_36 : decode cX0_cut 36 = .ok (.if_icmp .lt 27, 3) := dk_161 0 27 (dk_at dksX0_cut_1 12 rfl rfl)
theorem dX0_cut_39 : decode cX0_cut 39 = .ok (.aload_n 0, 1) := dk_42 (dk_at dksX0_cut_1 15 rfl rfl)
theorem dX0_cut_40 : decode cX0_cut 40 = .ok (.iload 4, 2) := dk_21 4 (dk_at dksX0_cut_1 16 rfl rfl)
theorem dX0_cut_42 : decode cX0_cut 42 = .ok (.invokevirtual 407, 3) := dk_182 1 151 (dk_at dksX0_cut_1 18 rfl rfl)
theorem dX0_cut_45 : decode cX0_cut 45 = .ok (.ifCond .eq 18, 3) := dk_153 0 18 (dk_at dksX0_cut_1 21 rfl rfl)
theorem dX0_cut_48 : decode cX0_cut 48 = .ok (.iload 4, 2) := dk_21 4 (dk_at dksX0_cut_2 0 rfl rfl)
theorem dX0_cut_50 : decode cX0_cut 50 = .ok (.iload_n 3, 1) := dk_29 (dk_at dksX0_cut_2 2 rfl rfl)
theorem dX0_cut_51 : decode cX0_cut 51 = .ok (.if_icmp .eq 12, 3) := dk_159 0 12 (dk_at dksX0_cut_2 3 rfl rfl)
theorem dX0_cut_54 : decode cX0_cut 54 = .ok (.aload_n 0, 1) := dk_42 (dk_at dksX0_cut_2 6 rfl rfl)
theorem dX0_cut_55 : decode cX0_cut 55 = .ok (.getfield 268, 3) := dk_180 1 12 (dk_at dksX0_cut_2 7 rfl rfl)
theorem dX0_cut_58 : decode cX0_cut 58 = .ok (.bipush 40, 2) := dk_16 40 (dk_at dksX0_cut_2 10 rfl rfl)
theorem dX0_cut_60 : decode cX0_cut 60 = .ok (.if_icmp .ne 5, 3) := dk_160 0 5 (dk_at dksX0_cut_2 12 rfl rfl)
theorem dX0_cut_63 : decode cX0_cut 63 = .ok (.iconst (-1), 1) := dk_2 (dk_at dksX0_cut_2 15 rfl rfl)
theorem dX0_cut_64 : decode cX0_cut 64 = .ok (.ireturn, 1) := dk_172 (dk_at dksX0_cut_2 16 rfl rfl)
theorem dX0_cut_65 : decode cX0_cut 65 = .ok (.aload_n 0, 1) := dk_42 (dk_at dksX0_cut_2 17 rfl rfl)
theorem dX0_cut_66 : decode cX0_cut 66 = .ok (.iload_n 1, 1) := dk_27 (dk_at dksX0_cut_2 18 rfl rfl)
theorem dX0_cut_67 : decode cX0_cut 67 = .ok (.iload_n 2, 1) := dk_28 (dk_at dksX0_cut_2 19 rfl rfl)
theorem dX0_cut_68 : decode cX0_cut 68 = .ok (.iload_n 3, 1) := dk_29 (dk_at dksX0_cut_2 20 rfl rfl)
theorem dX0_cut_69 : decode cX0_cut 69 = .ok (.invokevirtual 395, 3) := dk_182 1 139 (dk_at dksX0_cut_2 21 rfl rfl)
theorem dX0_cut_72 : decode cX0_cut 72 = .ok (.aload_n 0, 1) := dk_42 (dk_at dksX0_cut_3 0 rfl rfl)
theorem dX0_cut_73 : decode cX0_cut 73 = .ok (.getfield 375, 3) := dk_180 1 119 (dk_at dksX0_cut_3 1 rfl rfl)
theorem dX0_cut_76 : decode cX0_cut 76 = .ok (.ifCond .ne 5, 3) := dk_154 0 5 (dk_at dksX0_cut_3 4 rfl rfl)
theorem dX0_cut_79 : decode cX0_cut 79 = .ok (.iconst (-1), 1) := dk_2 (dk_at dksX0_cut_3 7 rfl rfl)
theorem dX0_cut_80 : decode cX0_cut 80 = .ok (.ireturn, 1) := dk_172 (dk_at dksX0_cut_3 8 rfl rfl)
theorem dX0_cut_81 : decode cX0_cut 81 = .ok (.lconst 0, 1) := dk_9 (dk_at dksX0_cut_3 9 rfl rfl)
theorem dX0_cut_82 : decode cX0_cut 82 = .ok (.lstore 5, 2) := dk_55 5 (dk_at dksX0_cut_3 10 rfl rfl)
theorem dX0_cut_84 : decode cX0_cut 84 = .ok (.bipush 12, 2) := dk_16 12 (dk_at dksX0_cut_3 12 rfl rfl)
theorem dX0_cut_86 : decode cX0_cut 86 = .ok (.newarray .int, 2) := dk_188_10 (dk_at dksX0_cut_3 14 rfl rfl)
theorem dX0_cut_88 : decode cX0_cut 88 = .ok (.astore 7, 2) := dk_58 7 (dk_at dksX0_cut_3 16 rfl rfl)
theorem dX0_cut_90 : decode cX0_cut 90 = .ok (.iconst 0, 1) := dk_3 (dk_at dksX0_cut_3 18 rfl rfl)
theorem dX0_cut_91 : decode cX0_cut 91 = .ok (.istore 8, 2) := dk_54 8 (dk_at dksX0_cut_3 19 rfl rfl)
theorem dX0_cut_93 : decode cX0_cut 93 = .ok (.iload 8, 2) := dk_21 8 (dk_at dksX0_cut_3 21 rfl rfl)
theorem dX0_cut_95 : decode cX0_cut 95 = .ok (.aload_n 0, 1) := dk_42 (dk_at dksX0_cut_3 23 rfl rfl)
theorem dX0_cut_96 : decode cX0_cut 96 = .ok (.getfield 375, 3) := dk_180 1 119 (dk_at dksX0_cut_4 0 rfl rfl)
theorem dX0_cut_99 : decode cX0_cut 99 = .ok (.if_icmp .ge 63, 3) := dk_162 0 63 (dk_at dksX0_cut_4 3 rfl rfl)
theorem dX0_cut_102 : decode cX0_cut 102 = .ok (.aload_n 0, 1) := dk_42 (dk_at dksX0_cut_4 6 rfl rfl)
theorem dX0_cut_103 : decode cX0_cut 103 = .ok (.getfield 133, 3) := dk_180 0 133 (dk_at dksX0_cut_4 7 rfl rfl)
theorem dX0_cut_106 : decode cX0_cut 106 = .ok (.iload 8, 2) := dk_21 8 (dk_at dksX0_cut_4 10 rfl rfl)
theorem dX0_cut_108 : decode cX0_cut 108 = .ok (.iaload, 1) := dk_46 (dk_at dksX0_cut_4 12 rfl rfl)
theorem dX0_cut_109 : decode cX0_cut 109 = .ok (.istore 9, 2) := dk_54 9 (dk_at dksX0_cut_4 13 rfl rfl)
theorem dX0_cut_111 : decode cX0_cut 111 = .ok (.aload 7, 2) := dk_25 7 (dk_at dksX0_cut_4 15 rfl rfl)
theorem dX0_cut_113 : decode cX0_cut 113 = .ok (.iload 9, 2) := dk_21 9 (dk_at dksX0_cut_4 17 rfl rfl)
theorem dX0_cut_115 : decode cX0_cut 115 = .ok (.aload_n 0, 1) := dk_42 (dk_at dksX0_cut_4 19 rfl rfl)
theorem dX0_cut_116 : decode cX0_cut 116 = .ok (.getfield 127, 3) := dk_180 0 127 (dk_at dksX0_cut_4 20 rfl rfl)
theorem dX0_cut_119 : decode cX0_cut 119 = .ok (.iload 9, 2) := dk_21 9 (dk_at dksX0_cut_5 0 rfl rfl)
theorem dX0_cut_121 : decode cX0_cut 121 = .ok (.iaload, 1) := dk_46 (dk_at dksX0_cut_5 2 rfl rfl)
theorem dX0_cut_122 : decode cX0_cut 122 = .ok (.iastore, 1) := dk_79 (dk_at dksX0_cut_5 3 rfl rfl)
theorem dX0_cut_123 : decode cX0_cut 123 = .ok (.lload 5, 2) := dk_22 5 (dk_at dksX0_cut_5 4 rfl rfl)
theorem dX0_cut_125 : decode cX0_cut 125 = .ok (.aload_n 0, 1) := dk_42 (dk_at dksX0_cut_5 6 rfl rfl)
theorem dX0_cut_126 : decode cX0_cut 126 = .ok (.getfield 11, 3) := dk_180 0 11 (dk_at dksX0_cut_5 7 rfl rfl)
theorem dX0_cut_129 : decode cX0_cut 129 = .ok (.iload 9, 2) := dk_21 9 (dk_at dksX0_cut_5 10 rfl rfl)
theorem dX0_cut_131 : decode cX0_cut 131 = .ok (.aaload, 1) := dk_50 (dk_at dksX0_cut_5 12 rfl rfl)
theorem dX0_cut_132 : decode cX0_cut 132 = .ok (.aload_n 0, 1) := dk_42 (dk_at dksX0_cut_5 13 rfl rfl)
theorem dX0_cut_133 : decode cX0_cut 133 = .ok (.getfield 11, 3) := dk_180 0 11 (dk_at dksX0_cut_5 14 rfl rfl)
theorem dX0_cut_136 : decode cX0_cut 136 = .ok (.iload 9, 2) := dk_21 9 (dk_at dksX0_cut_5 17 rfl rfl)
theorem dX0_cut_138 : decode cX0_cut 138 = .ok (.aaload, 1) := dk_50 (dk_at dksX0_cut_5 19 rfl rfl)
theorem dX0_cut_139 : decode cX0_cut 139 = .ok (.getfield 220, 3) := dk_180 0 220 (dk_at dksX0_cut_5 20 rfl rfl)
theorem dX0_cut_142 : decode cX0_cut 142 = .ok (.aload_n 0, 1) := dk_42 (dk_at dksX0_cut_5 23 rfl rfl)
theorem dX0_cut_143 : decode cX0_cut 143 = .ok (.getfield 127, 3) := dk_180 0 127 (dk_at dksX0_cut_6 0 rfl rfl)
theorem dX0_cut_146 : decode cX0_cut 146 = .ok (.iload 9, 2) := dk_21 9 (dk_at dksX0_cut_6 3 rfl rfl)
theorem dX0_cut_148 : decode cX0_cut 148 = .ok (.iaload, 1) := dk_46 (dk_at dksX0_cut_6 5 rfl rfl)
theorem dX0_cut_149 : decode cX0_cut 149 = .ok (.isub, 1) := dk_100 (dk_at dksX0_cut_6 6 rfl rfl)
theorem dX0_cut_150 : decode cX0_cut 150 = .ok (.invokevirtual 418, 3) := dk_182 1 162 (dk_at dksX0_cut_6 7 rfl rfl)
theorem dX0_cut_153 : decode cX0_cut 153 = .ok (.ladd, 1) := dk_97 (dk_at dksX0_cut_6 10 rfl rfl)
theorem dX0_cut_154 : decode cX0_cut 154 = .ok (.lstore 5, 2) := dk_55 5 (dk_at dksX0_cut_6 11 rfl rfl)
theorem dX0_cut_156 : decode cX0_cut 156 = .ok (.iinc 8 1, 3) := dk_132 8 1 (dk_at dksX0_cut_6 13 rfl rfl)
theorem dX0_cut_159 : decode cX0_cut 159 = .ok (.goto (-66), 3) := dk_167 255 190 (dk_at dksX0_cut_6 16 rfl rfl)
theorem dX0_cut_162 : decode cX0_cut 162 = .ok (.new 421, 3) := dk_187 1 165 (dk_at dksX0_cut_6 19 rfl rfl)
theorem dX0_cut_165 : decode cX0_cut 165 = .ok (.dup, 1) := dk_89 (dk_at dksX0_cut_6 22 rfl rfl)
theorem dX0_cut_166 : decode cX0_cut 166 = .ok (.aload_n 0, 1) := dk_42 (dk_at dksX0_cut_6 23 rfl rfl)
theorem dX0_cut_167 : decode cX0_cut 167 = .ok (.aload_n 0, 1) := dk_42 (dk_at dksX0_cut_7 0 rfl rfl)
theorem dX0_cut_168 : decode cX0_cut 168 = .ok (.getfield 369, 3) := dk_180 1 113 (dk_at dksX0_cut_7 1 rfl rfl)
theorem dX0_cut_171 : decode cX0_cut 171 = .ok (.aload_n 0, 1) := dk_42 (dk_at dksX0_cut_7 4 rfl rfl)
theorem dX0_cut_172 : decode cX0_cut 172 = .ok (.getfield 193, 3) := dk_180 0 193 (dk_at dksX0_cut_7 5 rfl rfl)
theorem dX0_cut_175 : decode cX0_cut 175 = .ok (.lload 5, 2) := dk_22 5 (dk_at dksX0_cut_7 8 rfl rfl)
theorem dX0_cut_177 : decode cX0_cut 177 = .ok (.iload_n 3, 1) := dk_29 (dk_at dksX0_cut_7 10 rfl rfl)
theorem dX0_cut_178 : decode cX0_cut 178 = .ok (.iload 4, 2) := dk_21 4 (dk_at dksX0_cut_7 11 rfl rfl)
theorem dX0_cut_180 : decode cX0_cut 180 = .ok (.invokespecial 423, 3) := dk_183 1 167 (dk_at dksX0_cut_7 13 rfl rfl)
theorem dX0_cut_183 : decode cX0_cut 183 = .ok (.astore 8, 2) := dk_58 8 (dk_at dksX0_cut_7 16 rfl rfl)
theorem dX0_cut_185 : decode cX0_cut 185 = .ok (.aload 7, 2) := dk_25 7 (dk_at dksX0_cut_7 18 rfl rfl)
theorem dX0_cut_187 : decode cX0_cut 187 = .ok (.iconst 0, 1) := dk_3 (dk_at dksX0_cut_7 20 rfl rfl)
theorem dX0_cut_188 : decode cX0_cut 188 = .ok (.aload 8, 2) := dk_25 8 (dk_at dksX0_cut_7 21 rfl rfl)
theorem dX0_cut_190 : decode cX0_cut 190 = .ok (.getfield 426, 3) := dk_180 1 170 (dk_at dksX0_cut_8 0 rfl rfl)
theorem dX0_cut_193 : decode cX0_cut 193 = .ok (.iconst 0, 1) := dk_3 (dk_at dksX0_cut_8 3 rfl rfl)
theorem dX0_cut_194 : decode cX0_cut 194 = .ok (.bipush 12, 2) := dk_16 12 (dk_at dksX0_cut_8 4 rfl rfl)
theorem dX0_cut_196 : decode cX0_cut 196 = .ok (.invokestatic 381, 3) := dk_184 1 125 (dk_at dksX0_cut_8 6 rfl rfl)
theorem dX0_cut_199 : decode cX0_cut 199 = .ok (.aload_n 0, 1) := dk_42 (dk_at dksX0_cut_8 9 rfl rfl)
theorem dX0_cut_200 : decode cX0_cut 200 = .ok (.dup, 1) := dk_89 (dk_at dksX0_cut_8 10 rfl rfl)
theorem dX0_cut_201 : decode cX0_cut 201 = .ok (.getfield 277, 3) := dk_180 1 21 (dk_at dksX0_cut_8 11 rfl rfl)
theorem dX0_cut_204 : decode cX0_cut 204 = .ok (.aload_n 0, 1) := dk_42 (dk_at dksX0_cut_8 14 rfl rfl)
theorem dX0_cut_205 : decode cX0_cut 205 = .ok (.getfield 369, 3) := dk_180 1 113 (dk_at dksX0_cut_8 15 rfl rfl)
theorem dX0_cut_208 : decode cX0_cut 208 = .ok (.iadd, 1) := dk_96 (dk_at dksX0_cut_8 18 rfl rfl)
theorem dX0_cut_209 : decode cX0_cut 209 = .ok (.putfield 277, 3) := dk_181 1 21 (dk_at dksX0_cut_8 19 rfl rfl)
theorem dX0_cut_212 : decode cX0_cut 212 = .ok (.aload_n 0, 1) := dk_42 (dk_at dksX0_cut_8 22 rfl rfl)
theorem dX0_cut_213 : decode cX0_cut 213 = .ok (.getfield 138, 3) := dk_180 0 138 (dk_at dksX0_cut_9 0 rfl rfl)
theorem dX0_cut_216 : decode cX0_cut 216 = .ok (.iload 4, 2) := dk_21 4 (dk_at dksX0_cut_9 3 rfl rfl)
theorem dX0_cut_218 : decode cX0_cut 218 = .ok (.aaload, 1) := dk_50 (dk_at dksX0_cut_9 5 rfl rfl)
theorem dX0_cut_219 : decode cX0_cut 219 = .ok (.dup, 1) := dk_89 (dk_at dksX0_cut_9 6 rfl rfl)
theorem dX0_cut_220 : decode cX0_cut 220 = .ok (.getfield 412, 3) := dk_180 1 156 (dk_at dksX0_cut_9 7 rfl rfl)
theorem dX0_cut_223 : decode cX0_cut 223 = .ok (.iconst 1, 1) := dk_4 (dk_at dksX0_cut_9 10 rfl rfl)
theorem dX0_cut_224 : decode cX0_cut 224 = .ok (.iadd, 1) := dk_96 (dk_at dksX0_cut_9 11 rfl rfl)
theorem dX0_cut_225 : decode cX0_cut 225 = .ok (.putfield 412, 3) := dk_181 1 156 (dk_at dksX0_cut_9 12 rfl rfl)
theorem dX0_cut_228 : decode cX0_cut 228 = .ok (.aload_n 0, 1) := dk_42 (dk_at dksX0_cut_9 15 rfl rfl)
theorem dX0_cut_229 : decode cX0_cut 229 = .ok (.aload 8, 2) := dk_25 8 (dk_at dksX0_cut_9 16 rfl rfl)
theorem dX0_cut_231 : decode cX0_cut 231 = .ok (.invokevirtual 429, 3) := dk_182 1 173 (dk_at dksX0_cut_9 18 rfl rfl)
theorem dX0_cut_234 : decode cX0_cut 234 = .ok (.ireturn, 1) := dk_172 (dk_at dksX0_cut_9 21 rfl rfl)
abbrev cX0_comes : ByteArray := prog_1_method_49_code
def yX0_comes : MethodName := ⟨RX0, "comes", "(LCliffHoney$Lot;)I"⟩
def dkwX0_comes_1 : List UInt8 := [4, 100, 172]
abbrev dktX0_comes_1 : List UInt8 := dkwX0_comes_1 ++ []
def dkwX0_comes_0 : List UInt8 := [42, 180, 0, 150, 42, 180, 1, 12, 43, 83, 42, 89, 180, 1, 12, 4, 96, 181, 1, 12, 42, 180, 1, 12]
abbrev dktX0_comes_0 : List UInt8 := dkwX0_comes_0 ++ dktX0_comes_1
theorem dksX0_comes_0 : cX0_comes.data.toList.drop 0 = dktX0_comes_0 := by decide +kernel
theorem dksX0_comes_1 : cX0_comes.data.toList.drop 24 = dktX0_comes_1 := dk_seg dksX0_comes_0 24 rfl rfl
theorem dX0_comes_0 : decode cX0_comes 0 = .ok (.aload_n 0, 1) := dk_42 (dk_at dksX0_comes_0 0 rfl rfl)
theorem dX0_comes_1 : decode cX0_comes 1 = .ok (.getfield 150, 3) := dk_180 0 150 (dk_at dksX0_comes_0 1 rfl rfl)
theorem dX0_comes_4 : decode cX0_comes 4 = .ok (.aload_n 0, 1) := dk_42 (dk_at dksX0_comes_0 4 rfl rfl)
theorem dX0_comes_5 : decode cX0_comes 5 = .ok (.getfield 268, 3) := dk_180 1 12 (dk_at dksX0_comes_0 5 rfl rfl)
theorem dX0_comes_8 : decode cX0_comes 8 = .ok (.aload_n 1, 1) := dk_43 (dk_at dksX0_comes_0 8 rfl rfl)
theorem dX0_comes_9 : decode cX0_comes 9 = .ok (.aastore, 1) := dk_83 (dk_at dksX0_comes_0 9 rfl rfl)
theorem dX0_comes_10 : decode cX0_comes 10 = .ok (.aload_n 0, 1) := dk_42 (dk_at dksX0_comes_0 10 rfl rfl)
theorem dX0_comes_11 : decode cX0_comes 11 = .ok (.dup, 1) := dk_89 (dk_at dksX0_comes_0 11 rfl rfl)
theorem dX0_comes_12 : decode cX0_comes 12 = .ok (.getfield 268, 3) := dk_180 1 12 (dk_at dksX0_comes_0 12 rfl rfl)
theorem dX0_comes_15 : decode cX0_comes 15 = .ok (.iconst 1, 1) := dk_4 (dk_at dksX0_comes_0 15 rfl rfl)
theorem dX0_comes_16 : decode cX0_comes 16 = .ok (.iadd, 1) := dk_96 (dk_at dksX0_comes_0 16 rfl rfl)
theorem dX0_comes_17 : decode cX0_comes 17 = .ok (.putfield 268, 3) := dk_181 1 12 (dk_at dksX0_comes_0 17 rfl rfl)
theorem dX0_comes_20 : decode cX0_comes 20 = .ok (.aload_n 0, 1) := dk_42 (dk_at dksX0_comes_0 20 rfl rfl)
theorem dX0_comes_21 : decode cX0_comes 21 = .ok (.getfield 268, 3) := dk_180 1 12 (dk_at dksX0_comes_0 21 rfl rfl)
theorem dX0_comes_24 : decode cX0_comes 24 = .ok (.iconst 1, 1) := dk_4 (dk_at dksX0_comes_1 0 rfl rfl)
theorem dX0_comes_25 : decode cX0_comes 25 = .ok (.isub, 1) := dk_100 (dk_at dksX0_comes_1 1 rfl rfl)
theorem dX0_comes_26 : decode cX0_comes 26 = .ok (.ireturn, 1) := dk_172 (dk_at dksX0_comes_1 2 rfl rfl)
abbrev cX0_lot : ByteArray := prog_1_method_52_code
def yX0_lot : MethodName := ⟨RX0, "lot", "(II)I"⟩
def dkwX0_lot_4 : List UInt8 := [172, 2, 172]
abbrev dktX0_lot_4 : List UInt8 := dkwX0_lot_4 ++ []
def dkwX0_lot_3 : List UInt8 := [167, 0, 4, 3, 172, 45, 182, 1, 186, 172, 45, 182, 1, 188, 172, 45, 182, 1, 190, 172, 45, 180, 1, 193]
abbrev dktX0_lot_3 : List UInt8 := dkwX0_lot_3 ++ dktX0_lot_4
def dkwX0_lot_2 : List UInt8 := [45, 180, 1, 177, 172, 45, 180, 1, 180, 172, 45, 180, 1, 183, 172, 45, 180, 1, 15, 153, 0, 7, 4]
abbrev dktX0_lot_2 : List UInt8 := dkwX0_lot_2 ++ dktX0_lot_3
def dkwX0_lot_1 : List UInt8 := [170, 0, 0, 0, 0, 94, 0, 0, 0, 0, 0, 0, 0, 7, 0, 0, 0, 46, 0, 0, 0, 51, 0, 0, 0, 56, 0, 0, 0, 61, 0, 0, 0, 74, 0, 0, 0, 79, 0, 0, 0, 84, 0, 0, 0, 89]
abbrev dktX0_lot_1 : List UInt8 := dkwX0_lot_1 ++ dktX0_lot_2
def dkwX0_lot_0 : List UInt8 := [27, 155, 0, 11, 27, 42, 180, 1, 12, 161, 0, 5, 2, 172, 42, 180, 0, 150, 27, 50, 78, 28]
abbrev dktX0_lot_0 : List UInt8 := dkwX0_lot_0 ++ dktX0_lot_1
theorem dksX0_lot_0 : cX0_lot.data.toList.drop 0 = dktX0_lot_0 := by decide +kernel
theorem dksX0_lot_1 : cX0_lot.data.toList.drop 22 = dktX0_lot_1 := dk_seg dksX0_lot_0 22 rfl rfl
theorem dksX0_lot_2 : cX0_lot.data.toList.drop 68 = dktX0_lot_2 := dk_seg dksX0_lot_1 46 rfl rfl
theorem dksX0_lot_3 : cX0_lot.data.toList.drop 91 = dktX0_lot_3 := dk_seg dksX0_lot_2 23 rfl rfl
theorem dksX0_lot_4 : cX0_lot.data.toList.drop 115 = dktX0_lot_4 := dk_seg dksX0_lot_3 24 rfl rfl
theorem dX0_lot_0 : decode cX0_lot 0 = .ok (.iload_n 1, 1) := dk_27 (dk_at dksX0_lot_0 0 rfl rfl)
theorem dX0_lot_1 : decode cX0_lot 1 = .ok (.ifCond .lt 11, 3) := dk_155 0 11 (dk_at dksX0_lot_0 1 rfl rfl)
theorem dX0_lot_4 : decode cX0_lot 4 = .ok (.iload_n 1, 1) := dk_27 (dk_at dksX0_lot_0 4 rfl rfl)
theorem dX0_lot_5 : decode cX0_lot 5 = .ok (.aload_n 0, 1) := dk_42 (dk_at dksX0_lot_0 5 rfl rfl)
theorem dX0_lot_6 : decode cX0_lot 6 = .ok (.getfield 268, 3) := dk_180 1 12 (dk_at dksX0_lot_0 6 rfl rfl)
theorem dX0_lot_9 : decode cX0_lot 9 = .ok (.if_icmp .lt 5, 3) := dk_161 0 5 (dk_at dksX0_lot_0 9 rfl rfl)
theorem dX0_lot_12 : decode cX0_lot 12 = .ok (.iconst (-1), 1) := dk_2 (dk_at dksX0_lot_0 12 rfl rfl)
theorem dX0_lot_13 : decode cX0_lot 13 = .ok (.ireturn, 1) := dk_172 (dk_at dksX0_lot_0 13 rfl rfl)
theorem dX0_lot_14 : decode cX0_lot 14 = .ok (.aload_n 0, 1) := dk_42 (dk_at dksX0_lot_0 14 rfl rfl)
theorem dX0_lot_15 : decode cX0_lot 15 = .ok (.getfield 150, 3) := dk_180 0 150 (dk_at dksX0_lot_0 15 rfl rfl)
theorem dX0_lot_18 : decode cX0_lot 18 = .ok (.iload_n 1, 1) := dk_27 (dk_at dksX0_lot_0 18 rfl rfl)
theorem dX0_lot_19 : decode cX0_lot 19 = .ok (.aaload, 1) := dk_50 (dk_at dksX0_lot_0 19 rfl rfl)
theorem dX0_lot_20 : decode cX0_lot 20 = .ok (.astore_n 3, 1) := dk_78 (dk_at dksX0_lot_0 20 rfl rfl)
theorem dX0_lot_21 : decode cX0_lot 21 = .ok (.iload_n 2, 1) := dk_28 (dk_at dksX0_lot_0 21 rfl rfl)
theorem dX0_lot_22 : decode cX0_lot 22 = .ok (.tableswitch 94 0 7 #[46, 51, 56, 61, 74, 79, 84, 89], 46) := by decide +kernel
theorem dX0_lot_68 : decode cX0_lot 68 = .ok (.aload_n 3, 1) := dk_45 (dk_at dksX0_lot_2 0 rfl rfl)
theorem dX0_lot_69 : decode cX0_lot 69 = .ok (.getfield 433, 3) := dk_180 1 177 (dk_at dksX0_lot_2 1 rfl rfl)
theorem dX0_lot_72 : decode cX0_lot 72 = .ok (.ireturn, 1) := dk_172 (dk_at dksX0_lot_2 4 rfl rfl)
theorem dX0_lot_73 : decode cX0_lot 73 = .ok (.aload_n 3, 1) := dk_45 (dk_at dksX0_lot_2 5 rfl rfl)
theorem dX0_lot_74 : decode cX0_lot 74 = .ok (.getfield 436, 3) := dk_180 1 180 (dk_at dksX0_lot_2 6 rfl rfl)
theorem dX0_lot_77 : decode cX0_lot 77 = .ok (.ireturn, 1) := dk_172 (dk_at dksX0_lot_2 9 rfl rfl)
theorem dX0_lot_78 : decode cX0_lot 78 = .ok (.aload_n 3, 1) := dk_45 (dk_at dksX0_lot_2 10 rfl rfl)
theorem dX0_lot_79 : decode cX0_lot 79 = .ok (.getfield 439, 3) := dk_180 1 183 (dk_at dksX0_lot_2 11 rfl rfl)
theorem dX0_lot_82 : decode cX0_lot 82 = .ok (.ireturn, 1) := dk_172 (dk_at dksX0_lot_2 14 rfl rfl)
theorem dX0_lot_83 : decode cX0_lot 83 = .ok (.aload_n 3, 1) := dk_45 (dk_at dksX0_lot_2 15 rfl rfl)
theorem dX0_lot_84 : decode cX0_lot 84 = .ok (.getfield 271, 3) := dk_180 1 15 (dk_at dksX0_lot_2 16 rfl rfl)
theorem dX0_lot_87 : decode cX0_lot 87 = .ok (.ifCond .eq 7, 3) := dk_153 0 7 (dk_at dksX0_lot_2 19 rfl rfl)
theorem dX0_lot_90 : decode cX0_lot 90 = .ok (.iconst 1, 1) := dk_4 (dk_at dksX0_lot_2 22 rfl rfl)
theorem dX0_lot_91 : decode cX0_lot 91 = .ok (.goto 4, 3) := dk_167 0 4 (dk_at dksX0_lot_3 0 rfl rfl)
theorem dX0_lot_94 : decode cX0_lot 94 = .ok (.iconst 0, 1) := dk_3 (dk_at dksX0_lot_3 3 rfl rfl)
theorem dX0_lot_95 : decode cX0_lot 95 = .ok (.ireturn, 1) := dk_172 (dk_at dksX0_lot_3 4 rfl rfl)
theorem dX0_lot_96 : decode cX0_lot 96 = .ok (.aload_n 3, 1) := dk_45 (dk_at dksX0_lot_3 5 rfl rfl)
theorem dX0_lot_97 : decode cX0_lot 97 = .ok (.invokevirtual 442, 3) := dk_182 1 186 (dk_at dksX0_lot_3 6 rfl rfl)
theorem dX0_lot_100 : decode cX0_lot 100 = .ok (.ireturn, 1) := dk_172 (dk_at dksX0_lot_3 9 rfl rfl)
theorem dX0_lot_101 : decode cX0_lot 101 = .ok (.aload_n 3, 1) := dk_45 (dk_at dksX0_lot_3 10 rfl rfl)
theorem dX0_lot_102 : decode cX0_lot 102 = .ok (.invokevirtual 444, 3) := dk_182 1 188 (dk_at dksX0_lot_3 11 rfl rfl)
theorem dX0_lot_105 : decode cX0_lot 105 = .ok (.ireturn, 1) := dk_172 (dk_at dksX0_lot_3 14 rfl rfl)
theorem dX0_lot_106 : decode cX0_lot 106 = .ok (.aload_n 3, 1) := dk_45 (dk_at dksX0_lot_3 15 rfl rfl)
theorem dX0_lot_107 : decode cX0_lot 107 = .ok (.invokevirtual 446, 3) := dk_182 1 190 (dk_at dksX0_lot_3 16 rfl rfl)
theorem dX0_lot_110 : decode cX0_lot 110 = .ok (.ireturn, 1) := dk_172 (dk_at dksX0_lot_3 19 rfl rfl)
theorem dX0_lot_111 : decode cX0_lot 111 = .ok (.aload_n 3, 1) := dk_45 (dk_at dksX0_lot_3 20 rfl rfl)
theorem dX0_lot_112 : decode cX0_lot 112 = .ok (.getfield 449, 3) := dk_180 1 193 (dk_at dksX0_lot_3 21 rfl rfl)
theorem dX0_lot_115 : decode cX0_lot 115 = .ok (.ireturn, 1) := dk_172 (dk_at dksX0_lot_4 0 rfl rfl)
theorem dX0_lot_116 : decode cX0_lot 116 = .ok (.iconst (-1), 1) := dk_2 (dk_at dksX0_lot_4 1 rfl rfl)
theorem dX0_lot_117 : decode cX0_lot 117 = .ok (.ireturn, 1) := dk_172 (dk_at dksX0_lot_4 2 rfl rfl)
abbrev cX0_taste : ByteArray := prog_1_method_53_code
def yX0_taste : MethodName := ⟨RX0, "taste", "(III)I"⟩
def dkwX0_taste_3 : List UInt8 := [28, 184, 0, 187, 181, 1, 180, 25, 4, 25, 4, 180, 1, 183, 29, 184, 0, 181, 181, 1, 183, 4, 172]
abbrev dktX0_taste_3 : List UInt8 := dkwX0_taste_3 ++ []
def dkwX0_taste_2 : List UInt8 := [184, 0, 187, 25, 4, 180, 1, 183, 29, 184, 0, 181, 164, 0, 5, 3, 172, 25, 4, 25, 4, 180, 1, 180]
abbrev dktX0_taste_2 : List UInt8 := dkwX0_taste_2 ++ dktX0_taste_3
def dkwX0_taste_1 : List UInt8 := [184, 0, 199, 154, 0, 5, 2, 172, 42, 180, 0, 150, 27, 50, 58, 4, 25, 4, 180, 1, 180, 28]
abbrev dktX0_taste_1 : List UInt8 := dkwX0_taste_1 ++ dktX0_taste_2
def dkwX0_taste_0 : List UInt8 := [42, 27, 182, 1, 194, 153, 0, 23, 28, 3, 16, 90, 184, 0, 199, 153, 0, 13, 29, 28, 16, 90]
abbrev dktX0_taste_0 : List UInt8 := dkwX0_taste_0 ++ dktX0_taste_1
theorem dksX0_taste_0 : cX0_taste.data.toList.drop 0 = dktX0_taste_0 := by decide +kernel
theorem dksX0_taste_1 : cX0_taste.data.toList.drop 22 = dktX0_taste_1 := dk_seg dksX0_taste_0 22 rfl rfl
theorem dksX0_taste_2 : cX0_taste.data.toList.drop 44 = dktX0_taste_2 := dk_seg dksX0_taste_1 22 rfl rfl
theorem dksX0_taste_3 : cX0_taste.data.toList.drop 68 = dktX0_taste_3 := dk_seg dksX0_taste_2 24 rfl rfl
theorem dX0_taste_0 : decode cX0_taste 0 = .ok (.aload_n 0, 1) := dk_42 (dk_at dksX0_taste_0 0 rfl rfl)
theorem dX0_taste_1 : decode cX0_taste 1 = .ok (.iload_n 1, 1) := dk_27 (dk_at dksX0_taste_0 1 rfl rfl)
theorem dX0_taste_2 : decode cX0_taste 2 = .ok (.invokevirtual 450, 3) := dk_182 1 194 (dk_at dksX0_taste_0 2 rfl rfl)
theorem dX0_taste_5 : decode cX0_taste 5 = .ok (.ifCond .eq 23, 3) := dk_153 0 23 (dk_at dksX0_taste_0 5 rfl rfl)
theorem dX0_taste_8 : decode cX0_taste 8 = .ok (.iload_n 2, 1) := dk_28 (dk_at dksX0_taste_0 8 rfl rfl)
theorem dX0_taste_9 : decode cX0_taste 9 = .ok (.iconst 0, 1) := dk_3 (dk_at dksX0_taste_0 9 rfl rfl)
theorem dX0_taste_10 : decode cX0_taste 10 = .ok (.bipush 90, 2) := dk_16 90 (dk_at dksX0_taste_0 10 rfl rfl)
theorem dX0_taste_12 : decode cX0_taste 12 = .ok (.invokestatic 199, 3) := dk_184 0 199 (dk_at dksX0_taste_0 12 rfl rfl)
theorem dX0_taste_15 : decode cX0_taste 15 = .ok (.ifCond .eq 13, 3) := dk_153 0 13 (dk_at dksX0_taste_0 15 rfl rfl)
theorem dX0_taste_18 : decode cX0_taste 18 = .ok (.iload_n 3, 1) := dk_29 (dk_at dksX0_taste_0 18 rfl rfl)
theorem dX0_taste_19 : decode cX0_taste 19 = .ok (.iload_n 2, 1) := dk_28 (dk_at dksX0_taste_0 19 rfl rfl)
theorem dX0_taste_20 : decode cX0_taste 20 = .ok (.bipush 90, 2) := dk_16 90 (dk_at dksX0_taste_0 20 rfl rfl)
theorem dX0_taste_22 : decode cX0_taste 22 = .ok (.invokestatic 199, 3) := dk_184 0 199 (dk_at dksX0_taste_1 0 rfl rfl)
theorem dX0_taste_25 : decode cX0_taste 25 = .ok (.ifCond .ne 5, 3) := dk_154 0 5 (dk_at dksX0_taste_1 3 rfl rfl)
theorem dX0_taste_28 : decode cX0_taste 28 = .ok (.iconst (-1), 1) := dk_2 (dk_at dksX0_taste_1 6 rfl rfl)
theorem dX0_taste_29 : decode cX0_taste 29 = .ok (.ireturn, 1) := dk_172 (dk_at dksX0_taste_1 7 rfl rfl)
theorem dX0_taste_30 : decode cX0_taste 30 = .ok (.aload_n 0, 1) := dk_42 (dk_at dksX0_taste_1 8 rfl rfl)
theorem dX0_taste_31 : decode cX0_taste 31 = .ok (.getfield 150, 3) := dk_180 0 150 (dk_at dksX0_taste_1 9 rfl rfl)
theorem dX0_taste_34 : decode cX0_taste 34 = .ok (.iload_n 1, 1) := dk_27 (dk_at dksX0_taste_1 12 rfl rfl)
theorem dX0_taste_35 : decode cX0_taste 35 = .ok (.aaload, 1) := dk_50 (dk_at dksX0_taste_1 13 rfl rfl)
theorem dX0_taste_36 : decode cX0_taste 36 = .ok (.astore 4, 2) := dk_58 4 (dk_at dksX0_taste_1 14 rfl rfl)
theorem dX0_taste_38 : decode cX0_taste 38 = .ok (.aload 4, 2) := dk_25 4 (dk_at dksX0_taste_1 16 rfl rfl)
theorem dX0_taste_40 : decode cX0_taste 40 = .ok (.getfield 436, 3) := dk_180 1 180 (dk_at dksX0_taste_1 18 rfl rfl)
theorem dX0_taste_43 : decode cX0_taste 43 = .ok (.iload_n 2, 1) := dk_28 (dk_at dksX0_taste_1 21 rfl rfl)
theorem dX0_taste_44 : decode cX0_taste 44 = .ok (.invokestatic 187, 3) := dk_184 0 187 (dk_at dksX0_taste_2 0 rfl rfl)
theorem dX0_taste_47 : decode cX0_taste 47 = .ok (.aload 4, 2) := dk_25 4 (dk_at dksX0_taste_2 3 rfl rfl)
theorem dX0_taste_49 : decode cX0_taste 49 = .ok (.getfield 439, 3) := dk_180 1 183 (dk_at dksX0_taste_2 5 rfl rfl)
theorem dX0_taste_52 : decode cX0_taste 52 = .ok (.iload_n 3, 1) := dk_29 (dk_at dksX0_taste_2 8 rfl rfl)
theorem dX0_taste_53 : decode cX0_taste 53 = .ok (.invokestatic 181, 3) := dk_184 0 181 (dk_at dksX0_taste_2 9 rfl rfl)
theorem dX0_taste_56 : decode cX0_taste 56 = .ok (.if_icmp .le 5, 3) := dk_164 0 5 (dk_at dksX0_taste_2 12 rfl rfl)
theorem dX0_taste_59 : decode cX0_taste 59 = .ok (.iconst 0, 1) := dk_3 (dk_at dksX0_taste_2 15 rfl rfl)
theorem dX0_taste_60 : decode cX0_taste 60 = .ok (.ireturn, 1) := dk_172 (dk_at dksX0_taste_2 16 rfl rfl)
theorem dX0_taste_61 : decode cX0_taste 61 = .ok (.aload 4, 2) := dk_25 4 (dk_at dksX0_taste_2 17 rfl rfl)
theorem dX0_taste_63 : decode cX0_taste 63 = .ok (.aload 4, 2) := dk_25 4 (dk_at dksX0_taste_2 19 rfl rfl)
theorem dX0_taste_65 : decode cX0_taste 65 = .ok (.getfield 436, 3) := dk_180 1 180 (dk_at dksX0_taste_2 21 rfl rfl)
theorem dX0_taste_68 : decode cX0_taste 68 = .ok (.iload_n 2, 1) := dk_28 (dk_at dksX0_taste_3 0 rfl rfl)
theorem dX0_taste_69 : decode cX0_taste 69 = .ok (.invokestatic 187, 3) := dk_184 0 187 (dk_at dksX0_taste_3 1 rfl rfl)
theorem dX0_taste_72 : decode cX0_taste 72 = .ok (.putfield 436, 3) := dk_181 1 180 (dk_at dksX0_taste_3 4 rfl rfl)
theorem dX0_taste_75 : decode cX0_taste 75 = .ok (.aload 4, 2) := dk_25 4 (dk_at dksX0_taste_3 7 rfl rfl)
theorem dX0_taste_77 : decode cX0_taste 77 = .ok (.aload 4, 2) := dk_25 4 (dk_at dksX0_taste_3 9 rfl rfl)
theorem dX0_taste_79 : decode cX0_taste 79 = .ok (.getfield 439, 3) := dk_180 1 183 (dk_at dksX0_taste_3 11 rfl rfl)
theorem dX0_taste_82 : decode cX0_taste 82 = .ok (.iload_n 3, 1) := dk_29 (dk_at dksX0_taste_3 14 rfl rfl)
theorem dX0_taste_83 : decode cX0_taste 83 = .ok (.invokestatic 181, 3) := dk_184 0 181 (dk_at dksX0_taste_3 15 rfl rfl)
theorem dX0_taste_86 : decode cX0_taste 86 = .ok (.putfield 439, 3) := dk_181 1 183 (dk_at dksX0_taste_3 18 rfl rfl)
theorem dX0_taste_89 : decode cX0_taste 89 = .ok (.iconst 1, 1) := dk_4 (dk_at dksX0_taste_3 21 rfl rfl)
theorem dX0_taste_90 : decode cX0_taste 90 = .ok (.ireturn, 1) := dk_172 (dk_at dksX0_taste_3 22 rfl rfl)
abbrev cX0_isThere : ByteArray := prog_1_method_50_code
def yX0_isThere : MethodName := ⟨RX0, "isThere", "(I)Z"⟩
def dkwX0_isThere_1 : List UInt8 := [4, 167, 0, 4, 3, 172]
abbrev dktX0_isThere_1 : List UInt8 := dkwX0_isThere_1 ++ []
def dkwX0_isThere_0 : List UInt8 := [27, 155, 0, 27, 27, 42, 180, 1, 12, 162, 0, 19, 42, 180, 0, 150, 27, 50, 180, 1, 15, 153, 0, 7]
abbrev dktX0_isThere_0 : List UInt8 := dkwX0_isThere_0 ++ dktX0_isThere_1
theorem dksX0_isThere_0 : cX0_isThere.data.toList.drop 0 = dktX0_isThere_0 := by decide +kernel
theorem dksX0_isThere_1 : cX0_isThere.data.toList.drop 24 = dktX0_isThere_1 := dk_seg dksX0_isThere_0 24 rfl rfl
theorem dX0_isThere_0 : decode cX0_isThere 0 = .ok (.iload_n 1, 1) := dk_27 (dk_at dksX0_isThere_0 0 rfl rfl)
theorem dX0_isThere_1 : decode cX0_isThere 1 = .ok (.ifCond .lt 27, 3) := dk_155 0 27 (dk_at dksX0_isThere_0 1 rfl rfl)
theorem dX0_isThere_4 : decode cX0_isThere 4 = .ok (.iload_n 1, 1) := dk_27 (dk_at dksX0_isThere_0 4 rfl rfl)
theorem dX0_isThere_5 : decode cX0_isThere 5 = .ok (.aload_n 0, 1) := dk_42 (dk_at dksX0_isThere_0 5 rfl rfl)
theorem dX0_isThere_6 : decode cX0_isThere 6 = .ok (.getfield 268, 3) := dk_180 1 12 (dk_at dksX0_isThere_0 6 rfl rfl)
theorem dX0_isThere_9 : decode cX0_isThere 9 = .ok (.if_icmp .ge 19, 3) := dk_162 0 19 (dk_at dksX0_isThere_0 9 rfl rfl)
theorem dX0_isThere_12 : decode cX0_isThere 12 = .ok (.aload_n 0, 1) := dk_42 (dk_at dksX0_isThere_0 12 rfl rfl)
theorem dX0_isThere_13 : decode cX0_isThere 13 = .ok (.getfield 150, 3) := dk_180 0 150 (dk_at dksX0_isThere_0 13 rfl rfl)
theorem dX0_isThere_16 : decode cX0_isThere 16 = .ok (.iload_n 1, 1) := dk_27 (dk_at dksX0_isThere_0 16 rfl rfl)
theorem dX0_isThere_17 : decode cX0_isThere 17 = .ok (.aaload, 1) := dk_50 (dk_at dksX0_isThere_0 17 rfl rfl)
theorem dX0_isThere_18 : decode cX0_isThere 18 = .ok (.getfield 271, 3) := dk_180 1 15 (dk_at dksX0_isThere_0 18 rfl rfl)
theorem dX0_isThere_21 : decode cX0_isThere 21 = .ok (.ifCond .eq 7, 3) := dk_153 0 7 (dk_at dksX0_isThere_0 21 rfl rfl)
theorem dX0_isThere_24 : decode cX0_isThere 24 = .ok (.iconst 1, 1) := dk_4 (dk_at dksX0_isThere_1 0 rfl rfl)
theorem dX0_isThere_25 : decode cX0_isThere 25 = .ok (.goto 4, 3) := dk_167 0 4 (dk_at dksX0_isThere_1 1 rfl rfl)
theorem dX0_isThere_28 : decode cX0_isThere 28 = .ok (.iconst 0, 1) := dk_3 (dk_at dksX0_isThere_1 4 rfl rfl)
theorem dX0_isThere_29 : decode cX0_isThere 29 = .ok (.ireturn, 1) := dk_172 (dk_at dksX0_isThere_1 5 rfl rfl)
abbrev cX0_mix : ByteArray := prog_1_method_54_code
def yX0_mix : MethodName := ⟨RX0, "mix", "(II)I"⟩
def dkwX0_mix_3 : List UInt8 := [42, 180, 0, 193, 183, 1, 198, 182, 1, 173, 172]
abbrev dktX0_mix_3 : List UInt8 := dkwX0_mix_3 ++ []
def dkwX0_mix_2 : List UInt8 := [28, 50, 3, 181, 1, 15, 42, 187, 1, 196, 89, 42, 42, 180, 0, 150, 27, 50, 42, 180, 0, 150, 28, 50]
abbrev dktX0_mix_2 : List UInt8 := dkwX0_mix_2 ++ dktX0_mix_3
def dkwX0_mix_1 : List UInt8 := [180, 1, 12, 16, 40, 160, 0, 5, 2, 172, 42, 180, 0, 150, 27, 50, 3, 181, 1, 15, 42, 180, 0, 150]
abbrev dktX0_mix_1 : List UInt8 := dkwX0_mix_1 ++ dktX0_mix_2
def dkwX0_mix_0 : List UInt8 := [42, 27, 182, 1, 194, 153, 0, 25, 42, 28, 182, 1, 194, 153, 0, 17, 27, 28, 159, 0, 12, 42]
abbrev dktX0_mix_0 : List UInt8 := dkwX0_mix_0 ++ dktX0_mix_1
theorem dksX0_mix_0 : cX0_mix.data.toList.drop 0 = dktX0_mix_0 := by decide +kernel
theorem dksX0_mix_1 : cX0_mix.data.toList.drop 22 = dktX0_mix_1 := dk_seg dksX0_mix_0 22 rfl rfl
theorem dksX0_mix_2 : cX0_mix.data.toList.drop 46 = dktX0_mix_2 := dk_seg dksX0_mix_1 24 rfl rfl
theorem dksX0_mix_3 : cX0_mix.data.toList.drop 70 = dktX0_mix_3 := dk_seg dksX0_mix_2 24 rfl rfl
theorem dX0_mix_0 : decode cX0_mix 0 = .ok (.aload_n 0, 1) := dk_42 (dk_at dksX0_mix_0 0 rfl rfl)
theorem dX0_mix_1 : decode cX0_mix 1 = .ok (.iload_n 1, 1) := dk_27 (dk_at dksX0_mix_0 1 rfl rfl)
theorem dX0_mix_2 : decode cX0_mix 2 = .ok (.invokevirtual 450, 3) := dk_182 1 194 (dk_at dksX0_mix_0 2 rfl rfl)
theorem dX0_mix_5 : decode cX0_mix 5 = .ok (.ifCond .eq 25, 3) := dk_153 0 25 (dk_at dksX0_mix_0 5 rfl rfl)
theorem dX0_mix_8 : decode cX0_mix 8 = .ok (.aload_n 0, 1) := dk_42 (dk_at dksX0_mix_0 8 rfl rfl)
theorem dX0_mix_9 : decode cX0_mix 9 = .ok (.iload_n 2, 1) := dk_28 (dk_at dksX0_mix_0 9 rfl rfl)
theorem dX0_mix_10 : decode cX0_mix 10 = .ok (.invokevirtual 450, 3) := dk_182 1 194 (dk_at dksX0_mix_0 10 rfl rfl)
theorem dX0_mix_13 : decode cX0_mix 13 = .ok (.ifCond .eq 17, 3) := dk_153 0 17 (dk_at dksX0_mix_0 13 rfl rfl)
theorem dX0_mix_16 : decode cX0_mix 16 = .ok (.iload_n 1, 1) := dk_27 (dk_at dksX0_mix_0 16 rfl rfl)
theorem dX0_mix_17 : decode cX0_mix 17 = .ok (.iload_n 2, 1) := dk_28 (dk_at dksX0_mix_0 17 rfl rfl)
theorem dX0_mix_18 : decode cX0_mix 18 = .ok (.if_icmp .eq 12, 3) := dk_159 0 12 (dk_at dksX0_mix_0 18 rfl rfl)
theorem dX0_mix_21 : decode cX0_mix 21 = .ok (.aload_n 0, 1) := dk_42 (dk_at dksX0_mix_0 21 rfl rfl)
theorem dX0_mix_22 : decode cX0_mix 22 = .ok (.getfield 268, 3) := dk_180 1 12 (dk_at dksX0_mix_1 0 rfl rfl)
theorem dX0_mix_25 : decode cX0_mix 25 = .ok (.bipush 40, 2) := dk_16 40 (dk_at dksX0_mix_1 3 rfl rfl)
theorem dX0_mix_27 : decode cX0_mix 27 = .ok (.if_icmp .ne 5, 3) := dk_160 0 5 (dk_at dksX0_mix_1 5 rfl rfl)
theorem dX0_mix_30 : decode cX0_mix 30 = .ok (.iconst (-1), 1) := dk_2 (dk_at dksX0_mix_1 8 rfl rfl)
theorem dX0_mix_31 : decode cX0_mix 31 = .ok (.ireturn, 1) := dk_172 (dk_at dksX0_mix_1 9 rfl rfl)
theorem dX0_mix_32 : decode cX0_mix 32 = .ok (.aload_n 0, 1) := dk_42 (dk_at dksX0_mix_1 10 rfl rfl)
theorem dX0_mix_33 : decode cX0_mix 33 = .ok (.getfield 150, 3) := dk_180 0 150 (dk_at dksX0_mix_1 11 rfl rfl)
theorem dX0_mix_36 : decode cX0_mix 36 = .ok (.iload_n 1, 1) := dk_27 (dk_at dksX0_mix_1 14 rfl rfl)
theorem dX0_mix_37 : decode cX0_mix 37 = .ok (.aaload, 1) := dk_50 (dk_at dksX0_mix_1 15 rfl rfl)
theorem dX0_mix_38 : decode cX0_mix 38 = .ok (.iconst 0, 1) := dk_3 (dk_at dksX0_mix_1 16 rfl rfl)
theorem dX0_mix_39 : decode cX0_mix 39 = .ok (.putfield 271, 3) := dk_181 1 15 (dk_at dksX0_mix_1 17 rfl rfl)
theorem dX0_mix_42 : decode cX0_mix 42 = .ok (.aload_n 0, 1) := dk_42 (dk_at dksX0_mix_1 20 rfl rfl)
theorem dX0_mix_43 : decode cX0_mix 43 = .ok (.getfield 150, 3) := dk_180 0 150 (dk_at dksX0_mix_1 21 rfl rfl)
theorem dX0_mix_46 : decode cX0_mix 46 = .ok (.iload_n 2, 1) := dk_28 (dk_at dksX0_mix_2 0 rfl rfl)
theorem dX0_mix_47 : decode cX0_mix 47 = .ok (.aaload, 1) := dk_50 (dk_at dksX0_mix_2 1 rfl rfl)
theorem dX0_mix_48 : decode cX0_mix 48 = .ok (.iconst 0, 1) := dk_3 (dk_at dksX0_mix_2 2 rfl rfl)
theorem dX0_mix_49 : decode cX0_mix 49 = .ok (.putfield 271, 3) := dk_181 1 15 (dk_at dksX0_mix_2 3 rfl rfl)
theorem dX0_mix_52 : decode cX0_mix 52 = .ok (.aload_n 0, 1) := dk_42 (dk_at dksX0_mix_2 6 rfl rfl)
theorem dX0_mix_53 : decode cX0_mix 53 = .ok (.new 452, 3) := dk_187 1 196 (dk_at dksX0_mix_2 7 rfl rfl)
theorem dX0_mix_56 : decode cX0_mix 56 = .ok (.dup, 1) := dk_89 (dk_at dksX0_mix_2 10 rfl rfl)
theorem dX0_mix_57 : decode cX0_mix 57 = .ok (.aload_n 0, 1) := dk_42 (dk_at dksX0_mix_2 11 rfl rfl)
theorem dX0_mix_58 : decode cX0_mix 58 = .ok (.aload_n 0, 1) := dk_42 (dk_at dksX0_mix_2 12 rfl rfl)
theorem dX0_mix_59 : decode cX0_mix 59 = .ok (.getfield 150, 3) := dk_180 0 150 (dk_at dksX0_mix_2 13 rfl rfl)
theorem dX0_mix_62 : decode cX0_mix 62 = .ok (.iload_n 1, 1) := dk_27 (dk_at dksX0_mix_2 16 rfl rfl)
theorem dX0_mix_63 : decode cX0_mix 63 = .ok (.aaload, 1) := dk_50 (dk_at dksX0_mix_2 17 rfl rfl)
theorem dX0_mix_64 : decode cX0_mix 64 = .ok (.aload_n 0, 1) := dk_42 (dk_at dksX0_mix_2 18 rfl rfl)
theorem dX0_mix_65 : decode cX0_mix 65 = .ok (.getfield 150, 3) := dk_180 0 150 (dk_at dksX0_mix_2 19 rfl rfl)
theorem dX0_mix_68 : decode cX0_mix 68 = .ok (.iload_n 2, 1) := dk_28 (dk_at dksX0_mix_2 22 rfl rfl)
theorem dX0_mix_69 : decode cX0_mix 69 = .ok (.aaload, 1) := dk_50 (dk_at dksX0_mix_2 23 rfl rfl)
theorem dX0_mix_70 : decode cX0_mix 70 = .ok (.aload_n 0, 1) := dk_42 (dk_at dksX0_mix_3 0 rfl rfl)
theorem dX0_mix_71 : decode cX0_mix 71 = .ok (.getfield 193, 3) := dk_180 0 193 (dk_at dksX0_mix_3 1 rfl rfl)
theorem dX0_mix_74 : decode cX0_mix 74 = .ok (.invokespecial 454, 3) := dk_183 1 198 (dk_at dksX0_mix_3 4 rfl rfl)
theorem dX0_mix_77 : decode cX0_mix 77 = .ok (.invokevirtual 429, 3) := dk_182 1 173 (dk_at dksX0_mix_3 7 rfl rfl)
theorem dX0_mix_80 : decode cX0_mix 80 = .ok (.ireturn, 1) := dk_172 (dk_at dksX0_mix_3 10 rfl rfl)
abbrev cX0_buyer : ByteArray := prog_1_method_55_code
def yX0_buyer : MethodName := ⟨RX0, "buyer", "(IIII)I"⟩
def dkwX0_buyer_3 : List UInt8 := [183, 1, 205, 83, 42, 89, 180, 1, 202, 4, 96, 181, 1, 202, 42, 180, 1, 202, 4, 100, 172]
abbrev dktX0_buyer_3 : List UInt8 := dkwX0_buyer_3 ++ []
def dkwX0_buyer_2 : List UInt8 := [160, 0, 5, 2, 172, 42, 180, 0, 156, 42, 180, 1, 202, 187, 0, 154, 89, 27, 28, 29, 21, 4]
abbrev dktX0_buyer_2 : List UInt8 := dkwX0_buyer_2 ++ dktX0_buyer_3
def dkwX0_buyer_1 : List UInt8 := [184, 0, 199, 153, 0, 23, 21, 4, 4, 19, 1, 201, 184, 0, 199, 153, 0, 11, 42, 180, 1, 202, 7]
abbrev dktX0_buyer_1 : List UInt8 := dkwX0_buyer_1 ++ dktX0_buyer_2
def dkwX0_buyer_0 : List UInt8 := [27, 3, 16, 90, 184, 0, 199, 153, 0, 43, 28, 27, 16, 90, 184, 0, 199, 153, 0, 33, 29, 4, 16, 99]
abbrev dktX0_buyer_0 : List UInt8 := dkwX0_buyer_0 ++ dktX0_buyer_1
theorem dksX0_buyer_0 : cX0_buyer.data.toList.drop 0 = dktX0_buyer_0 := by decide +kernel
theorem dksX0_buyer_1 : cX0_buyer.data.toList.drop 24 = dktX0_buyer_1 := dk_seg dksX0_buyer_0 24 rfl rfl
theorem dksX0_buyer_2 : cX0_buyer.data.toList.drop 47 = dktX0_buyer_2 := dk_seg dksX0_buyer_1 23 rfl rfl
theorem dksX0_buyer_3 : cX0_buyer.data.toList.drop 69 = dktX0_buyer_3 := dk_seg dksX0_buyer_2 22 rfl rfl
theorem dX0_buyer_0 : decode cX0_buyer 0 = .ok (.iload_n 1, 1) := dk_27 (dk_at dksX0_buyer_0 0 rfl rfl)
theorem dX0_buyer_1 : decode cX0_buyer 1 = .ok (.iconst 0, 1) := dk_3 (dk_at dksX0_buyer_0 1 rfl rfl)
theorem dX0_buyer_2 : decode cX0_buyer 2 = .ok (.bipush 90, 2) := dk_16 90 (dk_at dksX0_buyer_0 2 rfl rfl)
theorem dX0_buyer_4 : decode cX0_buyer 4 = .ok (.invokestatic 199, 3) := dk_184 0 199 (dk_at dksX0_buyer_0 4 rfl rfl)
theorem dX0_buyer_7 : decode cX0_buyer 7 = .ok (.ifCond .eq 43, 3) := dk_153 0 43 (dk_at dksX0_buyer_0 7 rfl rfl)
theorem dX0_buyer_10 : decode cX0_buyer 10 = .ok (.iload_n 2, 1) := dk_28 (dk_at dksX0_buyer_0 10 rfl rfl)
theorem dX0_buyer_11 : decode cX0_buyer 11 = .ok (.iload_n 1, 1) := dk_27 (dk_at dksX0_buyer_0 11 rfl rfl)
theorem dX0_buyer_12 : decode cX0_buyer 12 = .ok (.bipush 90, 2) := dk_16 90 (dk_at dksX0_buyer_0 12 rfl rfl)
theorem dX0_buyer_14 : decode cX0_buyer 14 = .ok (.invokestatic 199, 3) := dk_184 0 199 (dk_at dksX0_buyer_0 14 rfl rfl)
theorem dX0_buyer_17 : decode cX0_buyer 17 = .ok (.ifCond .eq 33, 3) := dk_153 0 33 (dk_at dksX0_buyer_0 17 rfl rfl)
theorem dX0_buyer_20 : decode cX0_buyer 20 = .ok (.iload_n 3, 1) := dk_29 (dk_at dksX0_buyer_0 20 rfl rfl)
theorem dX0_buyer_21 : decode cX0_buyer 21 = .ok (.iconst 1, 1) := dk_4 (dk_at dksX0_buyer_0 21 rfl rfl)
theorem dX0_buyer_22 : decode cX0_buyer 22 = .ok (.bipush 99, 2) := dk_16 99 (dk_at dksX0_buyer_0 22 rfl rfl)
theorem dX0_buyer_24 : decode cX0_buyer 24 = .ok (.invokestatic 199, 3) := dk_184 0 199 (dk_at dksX0_buyer_1 0 rfl rfl)
theorem dX0_buyer_27 : decode cX0_buyer 27 = .ok (.ifCond .eq 23, 3) := dk_153 0 23 (dk_at dksX0_buyer_1 3 rfl rfl)
theorem dX0_buyer_30 : decode cX0_buyer 30 = .ok (.iload 4, 2) := dk_21 4 (dk_at dksX0_buyer_1 6 rfl rfl)
theorem dX0_buyer_32 : decode cX0_buyer 32 = .ok (.iconst 1, 1) := dk_4 (dk_at dksX0_buyer_1 8 rfl rfl)
theorem dX0_buyer_33 : decode cX0_buyer 33 = .ok (.ldc_w 457, 3) := dk_19 1 201 (dk_at dksX0_buyer_1 9 rfl rfl)
theorem dX0_buyer_36 : decode cX0_buyer 36 = .ok (.invokestatic 199, 3) := dk_184 0 199 (dk_at dksX0_buyer_1 12 rfl rfl)
theorem dX0_buyer_39 : decode cX0_buyer 39 = .ok (.ifCond .eq 11, 3) := dk_153 0 11 (dk_at dksX0_buyer_1 15 rfl rfl)
theorem dX0_buyer_42 : decode cX0_buyer 42 = .ok (.aload_n 0, 1) := dk_42 (dk_at dksX0_buyer_1 18 rfl rfl)
theorem dX0_buyer_43 : decode cX0_buyer 43 = .ok (.getfield 458, 3) := dk_180 1 202 (dk_at dksX0_buyer_1 19 rfl rfl)
theorem dX0_buyer_46 : decode cX0_buyer 46 = .ok (.iconst 4, 1) := dk_7 (dk_at dksX0_buyer_1 22 rfl rfl)
theorem dX0_buyer_47 : decode cX0_buyer 47 = .ok (.if_icmp .ne 5, 3) := dk_160 0 5 (dk_at dksX0_buyer_2 0 rfl rfl)
theorem dX0_buyer_50 : decode cX0_buyer 50 = .ok (.iconst (-1), 1) := dk_2 (dk_at dksX0_buyer_2 3 rfl rfl)
theorem dX0_buyer_51 : decode cX0_buyer 51 = .ok (.ireturn, 1) := dk_172 (dk_at dksX0_buyer_2 4 rfl rfl)
theorem dX0_buyer_52 : decode cX0_buyer 52 = .ok (.aload_n 0, 1) := dk_42 (dk_at dksX0_buyer_2 5 rfl rfl)
theorem dX0_buyer_53 : decode cX0_buyer 53 = .ok (.getfield 156, 3) := dk_180 0 156 (dk_at dksX0_buyer_2 6 rfl rfl)
theorem dX0_buyer_56 : decode cX0_buyer 56 = .ok (.aload_n 0, 1) := dk_42 (dk_at dksX0_buyer_2 9 rfl rfl)
theorem dX0_buyer_57 : decode cX0_buyer 57 = .ok (.getfield 458, 3) := dk_180 1 202 (dk_at dksX0_buyer_2 10 rfl rfl)
theorem dX0_buyer_60 : decode cX0_buyer 60 = .ok (.new 154, 3) := dk_187 0 154 (dk_at dksX0_buyer_2 13 rfl rfl)
theorem dX0_buyer_63 : decode cX0_buyer 63 = .ok (.dup, 1) := dk_89 (dk_at dksX0_buyer_2 16 rfl rfl)
theorem dX0_buyer_64 : decode cX0_buyer 64 = .ok (.iload_n 1, 1) := dk_27 (dk_at dksX0_buyer_2 17 rfl rfl)
theorem dX0_buyer_65 : decode cX0_buyer 65 = .ok (.iload_n 2, 1) := dk_28 (dk_at dksX0_buyer_2 18 rfl rfl)
theorem dX0_buyer_66 : decode cX0_buyer 66 = .ok (.iload_n 3, 1) := dk_29 (dk_at dksX0_buyer_2 19 rfl rfl)
theorem dX0_buyer_67 : decode cX0_buyer 67 = .ok (.iload 4, 2) := dk_21 4 (dk_at dksX0_buyer_2 20 rfl rfl)
theorem dX0_buyer_69 : decode cX0_buyer 69 = .ok (.invokespecial 461, 3) := dk_183 1 205 (dk_at dksX0_buyer_3 0 rfl rfl)
theorem dX0_buyer_72 : decode cX0_buyer 72 = .ok (.aastore, 1) := dk_83 (dk_at dksX0_buyer_3 3 rfl rfl)
theorem dX0_buyer_73 : decode cX0_buyer 73 = .ok (.aload_n 0, 1) := dk_42 (dk_at dksX0_buyer_3 4 rfl rfl)
theorem dX0_buyer_74 : decode cX0_buyer 74 = .ok (.dup, 1) := dk_89 (dk_at dksX0_buyer_3 5 rfl rfl)
theorem dX0_buyer_75 : decode cX0_buyer 75 = .ok (.getfield 458, 3) := dk_180 1 202 (dk_at dksX0_buyer_3 6 rfl rfl)
theorem dX0_buyer_78 : decode cX0_buyer 78 = .ok (.iconst 1, 1) := dk_4 (dk_at dksX0_buyer_3 9 rfl rfl)
theorem dX0_buyer_79 : decode cX0_buyer 79 = .ok (.iadd, 1) := dk_96 (dk_at dksX0_buyer_3 10 rfl rfl)
theorem dX0_buyer_80 : decode cX0_buyer 80 = .ok (.putfield 458, 3) := dk_181 1 202 (dk_at dksX0_buyer_3 11 rfl rfl)
theorem dX0_buyer_83 : decode cX0_buyer 83 = .ok (.aload_n 0, 1) := dk_42 (dk_at dksX0_buyer_3 14 rfl rfl)
theorem dX0_buyer_84 : decode cX0_buyer 84 = .ok (.getfield 458, 3) := dk_180 1 202 (dk_at dksX0_buyer_3 15 rfl rfl)
theorem dX0_buyer_87 : decode cX0_buyer 87 = .ok (.iconst 1, 1) := dk_4 (dk_at dksX0_buyer_3 18 rfl rfl)
theorem dX0_buyer_88 : decode cX0_buyer 88 = .ok (.isub, 1) := dk_100 (dk_at dksX0_buyer_3 19 rfl rfl)
theorem dX0_buyer_89 : decode cX0_buyer 89 = .ok (.ireturn, 1) := dk_172 (dk_at dksX0_buyer_3 20 rfl rfl)
abbrev cX0_sale : ByteArray := prog_1_method_58_code
def yX0_sale : MethodName := ⟨RX0, "sale", "(I)I"⟩
def dkwX0_sale_2 : List UInt8 := [180, 0, 166, 28, 46, 172, 132, 2, 1, 167, 255, 225, 2, 172]
abbrev dktX0_sale_2 : List UInt8 := dkwX0_sale_2 ++ []
def dkwX0_sale_1 : List UInt8 := [61, 28, 42, 180, 1, 206, 162, 0, 29, 27, 16, 10, 42, 180, 0, 160, 28, 46, 96, 160, 0, 10, 42]
abbrev dktX0_sale_1 : List UInt8 := dkwX0_sale_1 ++ dktX0_sale_2
def dkwX0_sale_0 : List UInt8 := [42, 182, 1, 228, 27, 154, 0, 8, 42, 180, 1, 209, 172, 27, 4, 160, 0, 8, 42, 180, 1, 212, 172, 3]
abbrev dktX0_sale_0 : List UInt8 := dkwX0_sale_0 ++ dktX0_sale_1
theorem dksX0_sale_0 : cX0_sale.data.toList.drop 0 = dktX0_sale_0 := by decide +kernel
theorem dksX0_sale_1 : cX0_sale.data.toList.drop 24 = dktX0_sale_1 := dk_seg dksX0_sale_0 24 rfl rfl
theorem dksX0_sale_2 : cX0_sale.data.toList.drop 47 = dktX0_sale_2 := dk_seg dksX0_sale_1 23 rfl rfl
theorem dX0_sale_0 : decode cX0_sale 0 = .ok (.aload_n 0, 1) := dk_42 (dk_at dksX0_sale_0 0 rfl rfl)
theorem dX0_sale_1 : decode cX0_sale 1 = .ok (.invokevirtual 484, 3) := dk_182 1 228 (dk_at dksX0_sale_0 1 rfl rfl)
theorem dX0_sale_4 : decode cX0_sale 4 = .ok (.iload_n 1, 1) := dk_27 (dk_at dksX0_sale_0 4 rfl rfl)
theorem dX0_sale_5 : decode cX0_sale 5 = .ok (.ifCond .ne 8, 3) := dk_154 0 8 (dk_at dksX0_sale_0 5 rfl rfl)
theorem dX0_sale_8 : decode cX0_sale 8 = .ok (.aload_n 0, 1) := dk_42 (dk_at dksX0_sale_0 8 rfl rfl)
theorem dX0_sale_9 : decode cX0_sale 9 = .ok (.getfield 465, 3) := dk_180 1 209 (dk_at dksX0_sale_0 9 rfl rfl)
theorem dX0_sale_12 : decode cX0_sale 12 = .ok (.ireturn, 1) := dk_172 (dk_at dksX0_sale_0 12 rfl rfl)
theorem dX0_sale_13 : decode cX0_sale 13 = .ok (.iload_n 1, 1) := dk_27 (dk_at dksX0_sale_0 13 rfl rfl)
theorem dX0_sale_14 : decode cX0_sale 14 = .ok (.iconst 1, 1) := dk_4 (dk_at dksX0_sale_0 14 rfl rfl)
theorem dX0_sale_15 : decode cX0_sale 15 = .ok (.if_icmp .ne 8, 3) := dk_160 0 8 (dk_at dksX0_sale_0 15 rfl rfl)
theorem dX0_sale_18 : decode cX0_sale 18 = .ok (.aload_n 0, 1) := dk_42 (dk_at dksX0_sale_0 18 rfl rfl)
theorem dX0_sale_19 : decode cX0_sale 19 = .ok (.getfield 468, 3) := dk_180 1 212 (dk_at dksX0_sale_0 19 rfl rfl)
theorem dX0_sale_22 : decode cX0_sale 22 = .ok (.ireturn, 1) := dk_172 (dk_at dksX0_sale_0 22 rfl rfl)
theorem dX0_sale_23 : decode cX0_sale 23 = .ok (.iconst 0, 1) := dk_3 (dk_at dksX0_sale_0 23 rfl rfl)
theorem dX0_sale_24 : decode cX0_sale 24 = .ok (.istore_n 2, 1) := dk_61 (dk_at dksX0_sale_1 0 rfl rfl)
theorem dX0_sale_25 : decode cX0_sale 25 = .ok (.iload_n 2, 1) := dk_28 (dk_at dksX0_sale_1 1 rfl rfl)
theorem dX0_sale_26 : decode cX0_sale 26 = .ok (.aload_n 0, 1) := dk_42 (dk_at dksX0_sale_1 2 rfl rfl)
theorem dX0_sale_27 : decode cX0_sale 27 = .ok (.getfield 462, 3) := dk_180 1 206 (dk_at dksX0_sale_1 3 rfl rfl)
theorem dX0_sale_30 : decode cX0_sale 30 = .ok (.if_icmp .ge 29, 3) := dk_162 0 29 (dk_at dksX0_sale_1 6 rfl rfl)
theorem dX0_sale_33 : decode cX0_sale 33 = .ok (.iload_n 1, 1) := dk_27 (dk_at dksX0_sale_1 9 rfl rfl)
theorem dX0_sale_34 : decode cX0_sale 34 = .ok (.bipush 10, 2) := dk_16 10 (dk_at dksX0_sale_1 10 rfl rfl)
theorem dX0_sale_36 : decode cX0_sale 36 = .ok (.aload_n 0, 1) := dk_42 (dk_at dksX0_sale_1 12 rfl rfl)
theorem dX0_sale_37 : decode cX0_sale 37 = .ok (.getfield 160, 3) := dk_180 0 160 (dk_at dksX0_sale_1 13 rfl rfl)
theorem dX0_sale_40 : decode cX0_sale 40 = .ok (.iload_n 2, 1) := dk_28 (dk_at dksX0_sale_1 16 rfl rfl)
theorem dX0_sale_41 : decode cX0_sale 41 = .ok (.iaload, 1) := dk_46 (dk_at dksX0_sale_1 17 rfl rfl)
theorem dX0_sale_42 : decode cX0_sale 42 = .ok (.iadd, 1) := dk_96 (dk_at dksX0_sale_1 18 rfl rfl)
theorem dX0_sale_43 : decode cX0_sale 43 = .ok (.if_icmp .ne 10, 3) := dk_160 0 10 (dk_at dksX0_sale_1 19 rfl rfl)
theorem dX0_sale_46 : decode cX0_sale 46 = .ok (.aload_n 0, 1) := dk_42 (dk_at dksX0_sale_1 22 rfl rfl)
theorem dX0_sale_47 : decode cX0_sale 47 = .ok (.getfield 166, 3) := dk_180 0 166 (dk_at dksX0_sale_2 0 rfl rfl)
theorem dX0_sale_50 : decode cX0_sale 50 = .ok (.iload_n 2, 1) := dk_28 (dk_at dksX0_sale_2 3 rfl rfl)
theorem dX0_sale_51 : decode cX0_sale 51 = .ok (.iaload, 1) := dk_46 (dk_at dksX0_sale_2 4 rfl rfl)
theorem dX0_sale_52 : decode cX0_sale 52 = .ok (.ireturn, 1) := dk_172 (dk_at dksX0_sale_2 5 rfl rfl)
theorem dX0_sale_53 : decode cX0_sale 53 = .ok (.iinc 2 1, 3) := dk_132 2 1 (dk_at dksX0_sale_2 6 rfl rfl)
theorem dX0_sale_56 : decode cX0_sale 56 = .ok (.goto (-31), 3) := dk_167 255 225 (dk_at dksX0_sale_2 9 rfl rfl)
theorem dX0_sale_59 : decode cX0_sale 59 = .ok (.iconst (-1), 1) := dk_2 (dk_at dksX0_sale_2 12 rfl rfl)
theorem dX0_sale_60 : decode cX0_sale 60 = .ok (.ireturn, 1) := dk_172 (dk_at dksX0_sale_2 13 rfl rfl)
abbrev cX0_findSale : ByteArray := prog_1_method_57_code
def yX0_findSale : MethodName := ⟨RX0, "findSale", "()V"⟩
def dkwX0_findSale_3 : List UInt8 := [3, 3, 182, 1, 225, 177]
abbrev dktX0_findSale_3 : List UInt8 := dkwX0_findSale_3 ++ []
def dkwX0_findSale_2 : List UInt8 := [79, 42, 89, 180, 1, 206, 4, 96, 181, 1, 206, 132, 1, 1, 167, 255, 201, 42, 2, 181, 1, 209, 42, 3]
abbrev dktX0_findSale_2 : List UInt8 := dkwX0_findSale_2 ++ dktX0_findSale_3
def dkwX0_findSale_1 : List UInt8 := [42, 180, 0, 150, 27, 50, 180, 1, 15, 154, 0, 6, 167, 0, 23, 42, 180, 0, 160, 42, 180, 1, 206, 27]
abbrev dktX0_findSale_1 : List UInt8 := dkwX0_findSale_1 ++ dktX0_findSale_2
def dkwX0_findSale_0 : List UInt8 := [42, 3, 181, 1, 206, 3, 60, 27, 42, 180, 1, 12, 162, 0, 53, 42, 180, 1, 206, 16, 8, 162, 0, 44]
abbrev dktX0_findSale_0 : List UInt8 := dkwX0_findSale_0 ++ dktX0_findSale_1
theorem dksX0_findSale_0 : cX0_findSale.data.toList.drop 0 = dktX0_findSale_0 := by decide +kernel
theorem dksX0_findSale_1 : cX0_findSale.data.toList.drop 24 = dktX0_findSale_1 := dk_seg dksX0_findSale_0 24 rfl rfl
theorem dksX0_findSale_2 : cX0_findSale.data.toList.drop 48 = dktX0_findSale_2 := dk_seg dksX0_findSale_1 24 rfl rfl
theorem dksX0_findSale_3 : cX0_findSale.data.toList.drop 72 = dktX0_findSale_3 := dk_seg dksX0_findSale_2 24 rfl rfl
theorem dX0_findSale_0 : decode cX0_findSale 0 = .ok (.aload_n 0, 1) := dk_42 (dk_at dksX0_findSale_0 0 rfl rfl)
theorem dX0_findSale_1 : decode cX0_findSale 1 = .ok (.iconst 0, 1) := dk_3 (dk_at dksX0_findSale_0 1 rfl rfl)
theorem dX0_findSale_2 : decode cX0_findSale 2 = .ok (.putfield 462, 3) := dk_181 1 206 (dk_at dksX0_findSale_0 2 rfl rfl)
theorem dX0_findSale_5 : decode cX0_findSale 5 = .ok (.iconst 0, 1) := dk_3 (dk_at dksX0_findSale_0 5 rfl rfl)
theorem dX0_findSale_6 : decode cX0_findSale 6 = .ok (.istore_n 1, 1) := dk_60 (dk_at dksX0_findSale_0 6 rfl rfl)
theorem dX0_findSale_7 : decode cX0_findSale 7 = .ok (.iload_n 1, 1) := dk_27 (dk_at dksX0_findSale_0 7 rfl rfl)
theorem dX0_findSale_8 : decode cX0_findSale 8 = .ok (.aload_n 0, 1) := dk_42 (dk_at dksX0_findSale_0 8 rfl rfl)
theorem dX0_findSale_9 : decode cX0_findSale 9 = .ok (.getfield 268, 3) := dk_180 1 12 (dk_at dksX0_findSale_0 9 rfl rfl)
theorem dX0_findSale_12 : decode cX0_findSale 12 = .ok (.if_icmp .ge 53, 3) := dk_162 0 53 (dk_at dksX0_findSale_0 12 rfl rfl)
theorem dX0_findSale_15 : decode cX0_findSale 15 = .ok (.aload_n 0, 1) := dk_42 (dk_at dksX0_findSale_0 15 rfl rfl)
theorem dX0_findSale_16 : decode cX0_findSale 16 = .ok (.getfield 462, 3) := dk_180 1 206 (dk_at dksX0_findSale_0 16 rfl rfl)
theorem dX0_findSale_19 : decode cX0_findSale 19 = .ok (.bipush 8, 2) := dk_16 8 (dk_at dksX0_findSale_0 19 rfl rfl)
theorem dX0_findSale_21 : decode cX0_findSale 21 = .ok (.if_icmp .ge 44, 3) := dk_162 0 44 (dk_at dksX0_findSale_0 21 rfl rfl)
theorem dX0_findSale_24 : decode cX0_findSale 24 = .ok (.aload_n 0, 1) := dk_42 (dk_at dksX0_findSale_1 0 rfl rfl)
theorem dX0_findSale_25 : decode cX0_findSale 25 = .ok (.getfield 150, 3) := dk_180 0 150 (dk_at dksX0_findSale_1 1 rfl rfl)
theorem dX0_findSale_28 : decode cX0_findSale 28 = .ok (.iload_n 1, 1) := dk_27 (dk_at dksX0_findSale_1 4 rfl rfl)
theorem dX0_findSale_29 : decode cX0_findSale 29 = .ok (.aaload, 1) := dk_50 (dk_at dksX0_findSale_1 5 rfl rfl)
theorem dX0_findSale_30 : decode cX0_findSale 30 = .ok (.getfield 271, 3) := dk_180 1 15 (dk_at dksX0_findSale_1 6 rfl rfl)
theorem dX0_findSale_33 : decode cX0_findSale 33 = .ok (.ifCond .ne 6, 3) := dk_154 0 6 (dk_at dksX0_findSale_1 9 rfl rfl)
theorem dX0_findSale_36 : decode cX0_findSale 36 = .ok (.goto 23, 3) := dk_167 0 23 (dk_at dksX0_findSale_1 12 rfl rfl)
theorem dX0_findSale_39 : decode cX0_findSale 39 = .ok (.aload_n 0, 1) := dk_42 (dk_at dksX0_findSale_1 15 rfl rfl)
theorem dX0_findSale_40 : decode cX0_findSale 40 = .ok (.getfield 160, 3) := dk_180 0 160 (dk_at dksX0_findSale_1 16 rfl rfl)
theorem dX0_findSale_43 : decode cX0_findSale 43 = .ok (.aload_n 0, 1) := dk_42 (dk_at dksX0_findSale_1 19 rfl rfl)
theorem dX0_findSale_44 : decode cX0_findSale 44 = .ok (.getfield 462, 3) := dk_180 1 206 (dk_at dksX0_findSale_1 20 rfl rfl)
theorem dX0_findSale_47 : decode cX0_findSale 47 = .ok (.iload_n 1, 1) := dk_27 (dk_at dksX0_findSale_1 23 rfl rfl)
theorem dX0_findSale_48 : decode cX0_findSale 48 = .ok (.iastore, 1) := dk_79 (dk_at dksX0_findSale_2 0 rfl rfl)
theorem dX0_findSale_49 : decode cX0_findSale 49 = .ok (.aload_n 0, 1) := dk_42 (dk_at dksX0_findSale_2 1 rfl rfl)
theorem dX0_findSale_50 : decode cX0_findSale 50 = .ok (.dup, 1) := dk_89 (dk_at dksX0_findSale_2 2 rfl rfl)
theorem dX0_findSale_51 : decode cX0_findSale 51 = .ok (.getfield 462, 3) := dk_180 1 206 (dk_at dksX0_findSale_2 3 rfl rfl)
theorem dX0_findSale_54 : decode cX0_findSale 54 = .ok (.iconst 1, 1) := dk_4 (dk_at dksX0_findSale_2 6 rfl rfl)
theorem dX0_findSale_55 : decode cX0_findSale 55 = .ok (.iadd, 1) := dk_96 (dk_at dksX0_findSale_2 7 rfl rfl)
theorem dX0_findSale_56 : decode cX0_findSale 56 = .ok (.putfield 462, 3) := dk_181 1 206 (dk_at dksX0_findSale_2 8 rfl rfl)
theorem dX0_findSale_59 : decode cX0_findSale 59 = .ok (.iinc 1 1, 3) := dk_132 1 1 (dk_at dksX0_findSale_2 11 rfl rfl)
theorem dX0_findSale_62 : decode cX0_findSale 62 = .ok (.goto (-55), 3) := dk_167 255 201 (dk_at dksX0_findSale_2 14 rfl rfl)
theorem dX0_findSale_65 : decode cX0_findSale 65 = .ok (.aload_n 0, 1) := dk_42 (dk_at dksX0_findSale_2 17 rfl rfl)
theorem dX0_findSale_66 : decode cX0_findSale 66 = .ok (.iconst (-1), 1) := dk_2 (dk_at dksX0_findSale_2 18 rfl rfl)
theorem dX0_findSale_67 : decode cX0_findSale 67 = .ok (.putfield 465, 3) := dk_181 1 209 (dk_at dksX0_findSale_2 19 rfl rfl)
theorem dX0_findSale_70 : decode cX0_findSale 70 = .ok (.aload_n 0, 1) := dk_42 (dk_at dksX0_findSale_2 22 rfl rfl)
theorem dX0_findSale_71 : decode cX0_findSale 71 = .ok (.iconst 0, 1) := dk_3 (dk_at dksX0_findSale_2 23 rfl rfl)
theorem dX0_findSale_72 : decode cX0_findSale 72 = .ok (.iconst 0, 1) := dk_3 (dk_at dksX0_findSale_3 0 rfl rfl)
theorem dX0_findSale_73 : decode cX0_findSale 73 = .ok (.iconst 0, 1) := dk_3 (dk_at dksX0_findSale_3 1 rfl rfl)
theorem dX0_findSale_74 : decode cX0_findSale 74 = .ok (.invokevirtual 481, 3) := dk_182 1 225 (dk_at dksX0_findSale_3 2 rfl rfl)
theorem dX0_findSale_77 : decode cX0_findSale 77 = .ok (.return_, 1) := dk_177 (dk_at dksX0_findSale_3 5 rfl rfl)
abbrev cX0_offers : ByteArray := prog_1_method_56_code
def yX0_offers : MethodName := ⟨RX0, "offers", "(III)V"⟩
def dkwX0_offers_8 : List UInt8 := [2, 79, 42, 27, 4, 96, 28, 29, 182, 1, 225, 177]
abbrev dktX0_offers_8 : List UInt8 := dkwX0_offers_8 ++ []
def dkwX0_offers_7 : List UInt8 := [89, 180, 1, 219, 25, 4, 180, 1, 177, 96, 181, 1, 219, 132, 5, 1, 167, 255, 150, 42, 180, 0, 163, 27]
abbrev dktX0_offers_7 : List UInt8 := dkwX0_offers_7 ++ dktX0_offers_8
def dkwX0_offers_6 : List UInt8 := [180, 0, 156, 21, 5, 50, 180, 1, 222, 104, 96, 29, 4, 96, 182, 1, 225, 42, 180, 0, 156, 21, 5, 50]
abbrev dktX0_offers_6 : List UInt8 := dkwX0_offers_6 ++ dktX0_offers_7
def dkwX0_offers_5 : List UInt8 := [181, 1, 219, 42, 180, 0, 163, 27, 21, 5, 79, 42, 27, 4, 96, 28, 25, 4, 180, 1, 177, 42]
abbrev dktX0_offers_5 : List UInt8 := dkwX0_offers_5 ++ dktX0_offers_6
def dkwX0_offers_4 : List UInt8 := [154, 0, 6, 167, 0, 79, 42, 180, 0, 156, 21, 5, 50, 89, 180, 1, 219, 25, 4, 180, 1, 177, 100]
abbrev dktX0_offers_4 : List UInt8 := dkwX0_offers_4 ++ dktX0_offers_5
def dkwX0_offers_3 : List UInt8 := [54, 5, 21, 5, 42, 180, 1, 202, 162, 0, 103, 42, 180, 0, 156, 21, 5, 50, 25, 4, 182, 1, 215]
abbrev dktX0_offers_3 : List UInt8 := dkwX0_offers_3 ++ dktX0_offers_4
def dkwX0_offers_2 : List UInt8 := [42, 180, 0, 166, 3, 27, 184, 1, 125, 177, 42, 180, 0, 150, 42, 180, 0, 160, 27, 46, 50, 58, 4, 3]
abbrev dktX0_offers_2 : List UInt8 := dkwX0_offers_2 ++ dktX0_offers_3
def dkwX0_offers_1 : List UInt8 := [29, 42, 180, 1, 212, 161, 0, 4, 177, 42, 28, 181, 1, 209, 42, 29, 181, 1, 212, 42, 180, 0, 163, 3]
abbrev dktX0_offers_1 : List UInt8 := dkwX0_offers_1 ++ dktX0_offers_2
def dkwX0_offers_0 : List UInt8 := [27, 42, 180, 1, 206, 160, 0, 53, 28, 42, 180, 1, 209, 161, 0, 19, 28, 42, 180, 1, 209, 160, 0, 12]
abbrev dktX0_offers_0 : List UInt8 := dkwX0_offers_0 ++ dktX0_offers_1
theorem dksX0_offers_0 : cX0_offers.data.toList.drop 0 = dktX0_offers_0 := by decide +kernel
theorem dksX0_offers_1 : cX0_offers.data.toList.drop 24 = dktX0_offers_1 := dk_seg dksX0_offers_0 24 rfl rfl
theorem dksX0_offers_2 : cX0_offers.data.toList.drop 48 = dktX0_offers_2 := dk_seg dksX0_offers_1 24 rfl rfl
theorem dksX0_offers_3 : cX0_offers.data.toList.drop 72 = dktX0_offers_3 := dk_seg dksX0_offers_2 24 rfl rfl
theorem dksX0_offers_4 : cX0_offers.data.toList.drop 95 = dktX0_offers_4 := dk_seg dksX0_offers_3 23 rfl rfl
theorem dksX0_offers_5 : cX0_offers.data.toList.drop 118 = dktX0_offers_5 := dk_seg dksX0_offers_4 23 rfl rfl
theorem dksX0_offers_6 : cX0_offers.data.toList.drop 140 = dktX0_offers_6 := dk_seg dksX0_offers_5 22 rfl rfl
theorem dksX0_offers_7 : cX0_offers.data.toList.drop 164 = dktX0_offers_7 := dk_seg dksX0_offers_6 24 rfl rfl
theorem dksX0_offers_8 : cX0_offers.data.toList.drop 188 = dktX0_offers_8 := dk_seg dksX0_offers_7 24 rfl rfl
theorem dX0_offers_0 : decode cX0_offers 0 = .ok (.iload_n 1, 1) := dk_27 (dk_at dksX0_offers_0 0 rfl rfl)
theorem dX0_offers_1 : decode cX0_offers 1 = .ok (.aload_n 0, 1) := dk_42 (dk_at dksX0_offers_0 1 rfl rfl)
theorem dX0_offers_2 : decode cX0_offers 2 = .ok (.getfield 462, 3) := dk_180 1 206 (dk_at dksX0_offers_0 2 rfl rfl)
theorem dX0_offers_5 : decode cX0_offers 5 = .ok (.if_icmp .ne 53, 3) := dk_160 0 53 (dk_at dksX0_offers_0 5 rfl rfl)
theorem dX0_offers_8 : decode cX0_offers 8 = .ok (.iload_n 2, 1) := dk_28 (dk_at dksX0_offers_0 8 rfl rfl)
theorem dX0_offers_9 : decode cX0_offers 9 = .ok (.aload_n 0, 1) := dk_42 (dk_at dksX0_offers_0 9 rfl rfl)
theorem dX0_offers_10 : decode cX0_offers 10 = .ok (.getfield 465, 3) := dk_180 1 209 (dk_at dksX0_offers_0 10 rfl rfl)
theorem dX0_offers_13 : decode cX0_offers 13 = .ok (.if_icmp .lt 19, 3) := dk_161 0 19 (dk_at dksX0_offers_0 13 rfl rfl)
theorem dX0_offers_16 : decode cX0_offers 16 = .ok (.iload_n 2, 1) := dk_28 (dk_at dksX0_offers_0 16 rfl rfl)
theorem dX0_offers_17 : decode cX0_offers 17 = .ok (.aload_n 0, 1) := dk_42 (dk_at dksX0_offers_0 17 rfl rfl)
theorem dX0_offers_18 : decode cX0_offers 18 = .ok (.getfield 465, 3) := dk_180 1 209 (dk_at dksX0_offers_0 18 rfl rfl)
theorem dX0_offers_21 : decode cX0_offers 21 = .ok (.if_icmp .ne 12, 3) := dk_160 0 12 (dk_at dksX0_offers_0 21 rfl rfl)
theorem dX0_offers_24 : decode cX0_offers 24 = .ok (.iload_n 3, 1) := dk_29 (dk_at dksX0_offers_1 0 rfl rfl)
theorem dX0_offers_25 : decode cX0_offers 25 = .ok (.aload_n 0, 1) := dk_42 (dk_at dksX0_offers_1 1 rfl rfl)
theorem dX0_offers_26 : decode cX0_offers 26 = .ok (.getfield 468, 3) := dk_180 1 212 (dk_at dksX0_offers_1 2 rfl rfl)
theorem dX0_offers_29 : decode cX0_offers 29 = .ok (.if_icmp .lt 4, 3) := dk_161 0 4 (dk_at dksX0_offers_1 5 rfl rfl)
theorem dX0_offers_32 : decode cX0_offers 32 = .ok (.return_, 1) := dk_177 (dk_at dksX0_offers_1 8 rfl rfl)
theorem dX0_offers_33 : decode cX0_offers 33 = .ok (.aload_n 0, 1) := dk_42 (dk_at dksX0_offers_1 9 rfl rfl)
theorem dX0_offers_34 : decode cX0_offers 34 = .ok (.iload_n 2, 1) := dk_28 (dk_at dksX0_offers_1 10 rfl rfl)
theorem dX0_offers_35 : decode cX0_offers 35 = .ok (.putfield 465, 3) := dk_181 1 209 (dk_at dksX0_offers_1 11 rfl rfl)
theorem dX0_offers_38 : decode cX0_offers 38 = .ok (.aload_n 0, 1) := dk_42 (dk_at dksX0_offers_1 14 rfl rfl)
theorem dX0_offers_39 : decode cX0_offers 39 = .ok (.iload_n 3, 1) := dk_29 (dk_at dksX0_offers_1 15 rfl rfl)
theorem dX0_offers_40 : decode cX0_offers 40 = .ok (.putfield 468, 3) := dk_181 1 212 (dk_at dksX0_offers_1 16 rfl rfl)
theorem dX0_offers_43 : decode cX0_offers 43 = .ok (.aload_n 0, 1) := dk_42 (dk_at dksX0_offers_1 19 rfl rfl)
theorem dX0_offers_44 : decode cX0_offers 44 = .ok (.getfield 163, 3) := dk_180 0 163 (dk_at dksX0_offers_1 20 rfl rfl)
theorem dX0_offers_47 : decode cX0_offers 47 = .ok (.iconst 0, 1) := dk_3 (dk_at dksX0_offers_1 23 rfl rfl)
theorem dX0_offers_48 : decode cX0_offers 48 = .ok (.aload_n 0, 1) := dk_42 (dk_at dksX0_offers_2 0 rfl rfl)
theorem dX0_offers_49 : decode cX0_offers 49 = .ok (.getfield 166, 3) := dk_180 0 166 (dk_at dksX0_offers_2 1 rfl rfl)
theorem dX0_offers_52 : decode cX0_offers 52 = .ok (.iconst 0, 1) := dk_3 (dk_at dksX0_offers_2 4 rfl rfl)
theorem dX0_offers_53 : decode cX0_offers 53 = .ok (.iload_n 1, 1) := dk_27 (dk_at dksX0_offers_2 5 rfl rfl)
theorem dX0_offers_54 : decode cX0_offers 54 = .ok (.invokestatic 381, 3) := dk_184 1 125 (dk_at dksX0_offers_2 6 rfl rfl)
theorem dX0_offers_57 : decode cX0_offers 57 = .ok (.return_, 1) := dk_177 (dk_at dksX0_offers_2 9 rfl rfl)
theorem dX0_offers_58 : decode cX0_offers 58 = .ok (.aload_n 0, 1) := dk_42 (dk_at dksX0_offers_2 10 rfl rfl)
theorem dX0_offers_59 : decode cX0_offers 59 = .ok (.getfield 150, 3) := dk_180 0 150 (dk_at dksX0_offers_2 11 rfl rfl)
theorem dX0_offers_62 : decode cX0_offers 62 = .ok (.aload_n 0, 1) := dk_42 (dk_at dksX0_offers_2 14 rfl rfl)
theorem dX0_offers_63 : decode cX0_offers 63 = .ok (.getfield 160, 3) := dk_180 0 160 (dk_at dksX0_offers_2 15 rfl rfl)
theorem dX0_offers_66 : decode cX0_offers 66 = .ok (.iload_n 1, 1) := dk_27 (dk_at dksX0_offers_2 18 rfl rfl)
theorem dX0_offers_67 : decode cX0_offers 67 = .ok (.iaload, 1) := dk_46 (dk_at dksX0_offers_2 19 rfl rfl)
theorem dX0_offers_68 : decode cX0_offers 68 = .ok (.aaload, 1) := dk_50 (dk_at dksX0_offers_2 20 rfl rfl)
theorem dX0_offers_69 : decode cX0_offers 69 = .ok (.astore 4, 2) := dk_58 4 (dk_at dksX0_offers_2 21 rfl rfl)
theorem dX0_offers_71 : decode cX0_offers 71 = .ok (.iconst 0, 1) := dk_3 (dk_at dksX0_offers_2 23 rfl rfl)
theorem dX0_offers_72 : decode cX0_offers 72 = .ok (.istore 5, 2) := dk_54 5 (dk_at dksX0_offers_3 0 rfl rfl)
theorem dX0_offers_74 : decode cX0_offers 74 = .ok (.iload 5, 2) := dk_21 5 (dk_at dksX0_offers_3 2 rfl rfl)
theorem dX0_offers_76 : decode cX0_offers 76 = .ok (.aload_n 0, 1) := dk_42 (dk_at dksX0_offers_3 4 rfl rfl)
theorem dX0_offers_77 : decode cX0_offers 77 = .ok (.getfield 458, 3) := dk_180 1 202 (dk_at dksX0_offers_3 5 rfl rfl)
theorem dX0_offers_80 : decode cX0_offers 80 = .ok (.if_icmp .ge 103, 3) := dk_162 0 103 (dk_at dksX0_offers_3 8 rfl rfl)
theorem dX0_offers_83 : decode cX0_offers 83 = .ok (.aload_n 0, 1) := dk_42 (dk_at dksX0_offers_3 11 rfl rfl)
theorem dX0_offers_84 : decode cX0_offers 84 = .ok (.getfield 156, 3) := dk_180 0 156 (dk_at dksX0_offers_3 12 rfl rfl)
theorem dX0_offers_87 : decode cX0_offers 87 = .ok (.iload 5, 2) := dk_21 5 (dk_at dksX0_offers_3 15 rfl rfl)
theorem dX0_offers_89 : decode cX0_offers 89 = .ok (.aaload, 1) := dk_50 (dk_at dksX0_offers_3 17 rfl rfl)
theorem dX0_offers_90 : decode cX0_offers 90 = .ok (.aload 4, 2) := dk_25 4 (dk_at dksX0_offers_3 18 rfl rfl)
theorem dX0_offers_92 : decode cX0_offers 92 = .ok (.invokevirtual 471, 3) := dk_182 1 215 (dk_at dksX0_offers_3 20 rfl rfl)
theorem dX0_offers_95 : decode cX0_offers 95 = .ok (.ifCond .ne 6, 3) := dk_154 0 6 (dk_at dksX0_offers_4 0 rfl rfl)
theorem dX0_offers_98 : decode cX0_offers 98 = .ok (.goto 79, 3) := dk_167 0 79 (dk_at dksX0_offers_4 3 rfl rfl)
theorem dX0_offers_101 : decode cX0_offers 101 = .ok (.aload_n 0, 1) := dk_42 (dk_at dksX0_offers_4 6 rfl rfl)
theorem dX0_offers_102 : decode cX0_offers 102 = .ok (.getfield 156, 3) := dk_180 0 156 (dk_at dksX0_offers_4 7 rfl rfl)
theorem dX0_offers_105 : decode cX0_offers 105 = .ok (.iload 5, 2) := dk_21 5 (dk_at dksX0_offers_4 10 rfl rfl)
theorem dX0_offers_107 : decode cX0_offers 107 = .ok (.aaload, 1) := dk_50 (dk_at dksX0_offers_4 12 rfl rfl)
theorem dX0_offers_108 : decode cX0_offers 108 = .ok (.dup, 1) := dk_89 (dk_at dksX0_offers_4 13 rfl rfl)
theorem dX0_offers_109 : decode cX0_offers 109 = .ok (.getfield 475, 3) := dk_180 1 219 (dk_at dksX0_offers_4 14 rfl rfl)
theorem dX0_offers_112 : decode cX0_offers 112 = .ok (.aload 4, 2) := dk_25 4 (dk_at dksX0_offers_4 17 rfl rfl)
theorem dX0_offers_114 : decode cX0_offers 114 = .ok (.getfield 433, 3) := dk_180 1 177 (dk_at dksX0_offers_4 19 rfl rfl)
theorem dX0_offers_117 : decode cX0_offers 117 = .ok (.isub, 1) := dk_100 (dk_at dksX0_offers_4 22 rfl rfl)
theorem dX0_offers_118 : decode cX0_offers 118 = .ok (.putfield 475, 3) := dk_181 1 219 (dk_at dksX0_offers_5 0 rfl rfl)
theorem dX0_offers_121 : decode cX0_offers 121 = .ok (.aload_n 0, 1) := dk_42 (dk_at dksX0_offers_5 3 rfl rfl)
theorem dX0_offers_122 : decode cX0_offers 122 = .ok (.getfield 163, 3) := dk_180 0 163 (dk_at dksX0_offers_5 4 rfl rfl)
theorem dX0_offers_125 : decode cX0_offers 125 = .ok (.iload_n 1, 1) := dk_27 (dk_at dksX0_offers_5 7 rfl rfl)
theorem dX0_offers_126 : decode cX0_offers 126 = .ok (.iload 5, 2) := dk_21 5 (dk_at dksX0_offers_5 8 rfl rfl)
theorem dX0_offers_128 : decode cX0_offers 128 = .ok (.iastore, 1) := dk_79 (dk_at dksX0_offers_5 10 rfl rfl)
theorem dX0_offers_129 : decode cX0_offers 129 = .ok (.aload_n 0, 1) := dk_42 (dk_at dksX0_offers_5 11 rfl rfl)
theorem dX0_offers_130 : decode cX0_offers 130 = .ok (.iload_n 1, 1) := dk_27 (dk_at dksX0_offers_5 12 rfl rfl)
theorem dX0_offers_131 : decode cX0_offers 131 = .ok (.iconst 1, 1) := dk_4 (dk_at dksX0_offers_5 13 rfl rfl)
theorem dX0_offers_132 : decode cX0_offers 132 = .ok (.iadd, 1) := dk_96 (dk_at dksX0_offers_5 14 rfl rfl)
theorem dX0_offers_133 : decode cX0_offers 133 = .ok (.iload_n 2, 1) := dk_28 (dk_at dksX0_offers_5 15 rfl rfl)
theorem dX0_offers_134 : decode cX0_offers 134 = .ok (.aload 4, 2) := dk_25 4 (dk_at dksX0_offers_5 16 rfl rfl)
theorem dX0_offers_136 : decode cX0_offers 136 = .ok (.getfield 433, 3) := dk_180 1 177 (dk_at dksX0_offers_5 18 rfl rfl)
theorem dX0_offers_139 : decode cX0_offers 139 = .ok (.aload_n 0, 1) := dk_42 (dk_at dksX0_offers_5 21 rfl rfl)
theorem dX0_offers_140 : decode cX0_offers 140 = .ok (.getfield 156, 3) := dk_180 0 156 (dk_at dksX0_offers_6 0 rfl rfl)
theorem dX0_offers_143 : decode cX0_offers 143 = .ok (.iload 5, 2) := dk_21 5 (dk_at dksX0_offers_6 3 rfl rfl)
theorem dX0_offers_145 : decode cX0_offers 145 = .ok (.aaload, 1) := dk_50 (dk_at dksX0_offers_6 5 rfl rfl)
theorem dX0_offers_146 : decode cX0_offers 146 = .ok (.getfield 478, 3) := dk_180 1 222 (dk_at dksX0_offers_6 6 rfl rfl)
theorem dX0_offers_149 : decode cX0_offers 149 = .ok (.imul, 1) := dk_104 (dk_at dksX0_offers_6 9 rfl rfl)
theorem dX0_offers_150 : decode cX0_offers 150 = .ok (.iadd, 1) := dk_96 (dk_at dksX0_offers_6 10 rfl rfl)
theorem dX0_offers_151 : decode cX0_offers 151 = .ok (.iload_n 3, 1) := dk_29 (dk_at dksX0_offers_6 11 rfl rfl)
theorem dX0_offers_152 : decode cX0_offers 152 = .ok (.iconst 1, 1) := dk_4 (dk_at dksX0_offers_6 12 rfl rfl)
theorem dX0_offers_153 : decode cX0_offers 153 = .ok (.iadd, 1) := dk_96 (dk_at dksX0_offers_6 13 rfl rfl)
theorem dX0_offers_154 : decode cX0_offers 154 = .ok (.invokevirtual 481, 3) := dk_182 1 225 (dk_at dksX0_offers_6 14 rfl rfl)
theorem dX0_offers_157 : decode cX0_offers 157 = .ok (.aload_n 0, 1) := dk_42 (dk_at dksX0_offers_6 17 rfl rfl)
theorem dX0_offers_158 : decode cX0_offers 158 = .ok (.getfield 156, 3) := dk_180 0 156 (dk_at dksX0_offers_6 18 rfl rfl)
theorem dX0_offers_161 : decode cX0_offers 161 = .ok (.iload 5, 2) := dk_21 5 (dk_at dksX0_offers_6 21 rfl rfl)
theorem dX0_offers_163 : decode cX0_offers 163 = .ok (.aaload, 1) := dk_50 (dk_at dksX0_offers_6 23 rfl rfl)
theorem dX0_offers_164 : decode cX0_offers 164 = .ok (.dup, 1) := dk_89 (dk_at dksX0_offers_7 0 rfl rfl)
theorem dX0_offers_165 : decode cX0_offers 165 = .ok (.getfield 475, 3) := dk_180 1 219 (dk_at dksX0_offers_7 1 rfl rfl)
theorem dX0_offers_168 : decode cX0_offers 168 = .ok (.aload 4, 2) := dk_25 4 (dk_at dksX0_offers_7 4 rfl rfl)
theorem dX0_offers_170 : decode cX0_offers 170 = .ok (.getfield 433, 3) := dk_180 1 177 (dk_at dksX0_offers_7 6 rfl rfl)
theorem dX0_offers_173 : decode cX0_offers 173 = .ok (.iadd, 1) := dk_96 (dk_at dksX0_offers_7 9 rfl rfl)
theorem dX0_offers_174 : decode cX0_offers 174 = .ok (.putfield 475, 3) := dk_181 1 219 (dk_at dksX0_offers_7 10 rfl rfl)
theorem dX0_offers_177 : decode cX0_offers 177 = .ok (.iinc 5 1, 3) := dk_132 5 1 (dk_at dksX0_offers_7 13 rfl rfl)
theorem dX0_offers_180 : decode cX0_offers 180 = .ok (.goto (-106), 3) := dk_167 255 150 (dk_at dksX0_offers_7 16 rfl rfl)
theorem dX0_offers_183 : decode cX0_offers 183 = .ok (.aload_n 0, 1) := dk_42 (dk_at dksX0_offers_7 19 rfl rfl)
theorem dX0_offers_184 : decode cX0_offers 184 = .ok (.getfield 163, 3) := dk_180 0 163 (dk_at dksX0_offers_7 20 rfl rfl)
theorem dX0_offers_187 : decode cX0_offers 187 = .ok (.iload_n 1, 1) := dk_27 (dk_at dksX0_offers_7 23 rfl rfl)
theorem dX0_offers_188 : decode cX0_offers 188 = .ok (.iconst (-1), 1) := dk_2 (dk_at dksX0_offers_8 0 rfl rfl)
theorem dX0_offers_189 : decode cX0_offers 189 = .ok (.iastore, 1) := dk_79 (dk_at dksX0_offers_8 1 rfl rfl)
theorem dX0_offers_190 : decode cX0_offers 190 = .ok (.aload_n 0, 1) := dk_42 (dk_at dksX0_offers_8 2 rfl rfl)
theorem dX0_offers_191 : decode cX0_offers 191 = .ok (.iload_n 1, 1) := dk_27 (dk_at dksX0_offers_8 3 rfl rfl)
theorem dX0_offers_192 : decode cX0_offers 192 = .ok (.iconst 1, 1) := dk_4 (dk_at dksX0_offers_8 4 rfl rfl)
theorem dX0_offers_193 : decode cX0_offers 193 = .ok (.iadd, 1) := dk_96 (dk_at dksX0_offers_8 5 rfl rfl)
theorem dX0_offers_194 : decode cX0_offers 194 = .ok (.iload_n 2, 1) := dk_28 (dk_at dksX0_offers_8 6 rfl rfl)
theorem dX0_offers_195 : decode cX0_offers 195 = .ok (.iload_n 3, 1) := dk_29 (dk_at dksX0_offers_8 7 rfl rfl)
theorem dX0_offers_196 : decode cX0_offers 196 = .ok (.invokevirtual 481, 3) := dk_182 1 225 (dk_at dksX0_offers_8 8 rfl rfl)
theorem dX0_offers_199 : decode cX0_offers 199 = .ok (.return_, 1) := dk_177 (dk_at dksX0_offers_8 11 rfl rfl)
abbrev cX0_sell : ByteArray := prog_1_method_59_code
def yX0_sell : MethodName := ⟨RX0, "sell", "()I"⟩
def dkwX0_sell_4 : List UInt8 := [42, 180, 1, 209, 172]
abbrev dktX0_sell_4 : List UInt8 := dkwX0_sell_4 ++ []
def dkwX0_sell_3 : List UInt8 := [42, 180, 0, 156, 42, 180, 0, 166, 27, 46, 50, 180, 1, 222, 104, 182, 1, 231, 132, 1, 1, 167, 255, 169]
abbrev dktX0_sell_3 : List UInt8 := dkwX0_sell_3 ++ dktX0_sell_4
def dkwX0_sell_2 : List UInt8 := [42, 180, 0, 166, 27, 46, 50, 89, 180, 1, 219, 44, 180, 1, 177, 100, 181, 1, 219, 44, 44, 180, 1, 177]
abbrev dktX0_sell_2 : List UInt8 := dkwX0_sell_2 ++ dktX0_sell_3
def dkwX0_sell_1 : List UInt8 := [167, 0, 66, 42, 180, 0, 150, 42, 180, 0, 160, 27, 46, 50, 77, 44, 3, 181, 1, 15, 42, 180, 0, 156]
abbrev dktX0_sell_1 : List UInt8 := dkwX0_sell_1 ++ dktX0_sell_2
def dkwX0_sell_0 : List UInt8 := [42, 182, 1, 228, 3, 60, 27, 42, 180, 1, 206, 162, 0, 85, 42, 180, 0, 166, 27, 46, 2, 160, 0, 6]
abbrev dktX0_sell_0 : List UInt8 := dkwX0_sell_0 ++ dktX0_sell_1
theorem dksX0_sell_0 : cX0_sell.data.toList.drop 0 = dktX0_sell_0 := by decide +kernel
theorem dksX0_sell_1 : cX0_sell.data.toList.drop 24 = dktX0_sell_1 := dk_seg dksX0_sell_0 24 rfl rfl
theorem dksX0_sell_2 : cX0_sell.data.toList.drop 48 = dktX0_sell_2 := dk_seg dksX0_sell_1 24 rfl rfl
theorem dksX0_sell_3 : cX0_sell.data.toList.drop 72 = dktX0_sell_3 := dk_seg dksX0_sell_2 24 rfl rfl
theorem dksX0_sell_4 : cX0_sell.data.toList.drop 96 = dktX0_sell_4 := dk_seg dksX0_sell_3 24 rfl rfl
theorem dX0_sell_0 : decode cX0_sell 0 = .ok (.aload_n 0, 1) := dk_42 (dk_at dksX0_sell_0 0 rfl rfl)
theorem dX0_sell_1 : decode cX0_sell 1 = .ok (.invokevirtual 484, 3) := dk_182 1 228 (dk_at dksX0_sell_0 1 rfl rfl)
theorem dX0_sell_4 : decode cX0_sell 4 = .ok (.iconst 0, 1) := dk_3 (dk_at dksX0_sell_0 4 rfl rfl)
theorem dX0_sell_5 : decode cX0_sell 5 = .ok (.istore_n 1, 1) := dk_60 (dk_at dksX0_sell_0 5 rfl rfl)
theorem dX0_sell_6 : decode cX0_sell 6 = .ok (.iload_n 1, 1) := dk_27 (dk_at dksX0_sell_0 6 rfl rfl)
theorem dX0_sell_7 : decode cX0_sell 7 = .ok (.aload_n 0, 1) := dk_42 (dk_at dksX0_sell_0 7 rfl rfl)
theorem dX0_sell_8 : decode cX0_sell 8 = .ok (.getfield 462, 3) := dk_180 1 206 (dk_at dksX0_sell_0 8 rfl rfl)
theorem dX0_sell_11 : decode cX0_sell 11 = .ok (.if_icmp .ge 85, 3) := dk_162 0 85 (dk_at dksX0_sell_0 11 rfl rfl)
theorem dX0_sell_14 : decode cX0_sell 14 = .ok (.aload_n 0, 1) := dk_42 (dk_at dksX0_sell_0 14 rfl rfl)
theorem dX0_sell_15 : decode cX0_sell 15 = .ok (.getfield 166, 3) := dk_180 0 166 (dk_at dksX0_sell_0 15 rfl rfl)
theorem dX0_sell_18 : decode cX0_sell 18 = .ok (.iload_n 1, 1) := dk_27 (dk_at dksX0_sell_0 18 rfl rfl)
theorem dX0_sell_19 : decode cX0_sell 19 = .ok (.iaload, 1) := dk_46 (dk_at dksX0_sell_0 19 rfl rfl)
theorem dX0_sell_20 : decode cX0_sell 20 = .ok (.iconst (-1), 1) := dk_2 (dk_at dksX0_sell_0 20 rfl rfl)
theorem dX0_sell_21 : decode cX0_sell 21 = .ok (.if_icmp .ne 6, 3) := dk_160 0 6 (dk_at dksX0_sell_0 21 rfl rfl)
theorem dX0_sell_24 : decode cX0_sell 24 = .ok (.goto 66, 3) := dk_167 0 66 (dk_at dksX0_sell_1 0 rfl rfl)
theorem dX0_sell_27 : decode cX0_sell 27 = .ok (.aload_n 0, 1) := dk_42 (dk_at dksX0_sell_1 3 rfl rfl)
theorem dX0_sell_28 : decode cX0_sell 28 = .ok (.getfield 150, 3) := dk_180 0 150 (dk_at dksX0_sell_1 4 rfl rfl)
theorem dX0_sell_31 : decode cX0_sell 31 = .ok (.aload_n 0, 1) := dk_42 (dk_at dksX0_sell_1 7 rfl rfl)
theorem dX0_sell_32 : decode cX0_sell 32 = .ok (.getfield 160, 3) := dk_180 0 160 (dk_at dksX0_sell_1 8 rfl rfl)
theorem dX0_sell_35 : decode cX0_sell 35 = .ok (.iload_n 1, 1) := dk_27 (dk_at dksX0_sell_1 11 rfl rfl)
theorem dX0_sell_36 : decode cX0_sell 36 = .ok (.iaload, 1) := dk_46 (dk_at dksX0_sell_1 12 rfl rfl)
theorem dX0_sell_37 : decode cX0_sell 37 = .ok (.aaload, 1) := dk_50 (dk_at dksX0_sell_1 13 rfl rfl)
theorem dX0_sell_38 : decode cX0_sell 38 = .ok (.astore_n 2, 1) := dk_77 (dk_at dksX0_sell_1 14 rfl rfl)
theorem dX0_sell_39 : decode cX0_sell 39 = .ok (.aload_n 2, 1) := dk_44 (dk_at dksX0_sell_1 15 rfl rfl)
theorem dX0_sell_40 : decode cX0_sell 40 = .ok (.iconst 0, 1) := dk_3 (dk_at dksX0_sell_1 16 rfl rfl)
theorem dX0_sell_41 : decode cX0_sell 41 = .ok (.putfield 271, 3) := dk_181 1 15 (dk_at dksX0_sell_1 17 rfl rfl)
theorem dX0_sell_44 : decode cX0_sell 44 = .ok (.aload_n 0, 1) := dk_42 (dk_at dksX0_sell_1 20 rfl rfl)
theorem dX0_sell_45 : decode cX0_sell 45 = .ok (.getfield 156, 3) := dk_180 0 156 (dk_at dksX0_sell_1 21 rfl rfl)
theorem dX0_sell_48 : decode cX0_sell 48 = .ok (.aload_n 0, 1) := dk_42 (dk_at dksX0_sell_2 0 rfl rfl)
theorem dX0_sell_49 : decode cX0_sell 49 = .ok (.getfield 166, 3) := dk_180 0 166 (dk_at dksX0_sell_2 1 rfl rfl)
theorem dX0_sell_52 : decode cX0_sell 52 = .ok (.iload_n 1, 1) := dk_27 (dk_at dksX0_sell_2 4 rfl rfl)
theorem dX0_sell_53 : decode cX0_sell 53 = .ok (.iaload, 1) := dk_46 (dk_at dksX0_sell_2 5 rfl rfl)
theorem dX0_sell_54 : decode cX0_sell 54 = .ok (.aaload, 1) := dk_50 (dk_at dksX0_sell_2 6 rfl rfl)
theorem dX0_sell_55 : decode cX0_sell 55 = .ok (.dup, 1) := dk_89 (dk_at dksX0_sell_2 7 rfl rfl)
theorem dX0_sell_56 : decode cX0_sell 56 = .ok (.getfield 475, 3) := dk_180 1 219 (dk_at dksX0_sell_2 8 rfl rfl)
theorem dX0_sell_59 : decode cX0_sell 59 = .ok (.aload_n 2, 1) := dk_44 (dk_at dksX0_sell_2 11 rfl rfl)
theorem dX0_sell_60 : decode cX0_sell 60 = .ok (.getfield 433, 3) := dk_180 1 177 (dk_at dksX0_sell_2 12 rfl rfl)
theorem dX0_sell_63 : decode cX0_sell 63 = .ok (.isub, 1) := dk_100 (dk_at dksX0_sell_2 15 rfl rfl)
theorem dX0_sell_64 : decode cX0_sell 64 = .ok (.putfield 475, 3) := dk_181 1 219 (dk_at dksX0_sell_2 16 rfl rfl)
theorem dX0_sell_67 : decode cX0_sell 67 = .ok (.aload_n 2, 1) := dk_44 (dk_at dksX0_sell_2 19 rfl rfl)
theorem dX0_sell_68 : decode cX0_sell 68 = .ok (.aload_n 2, 1) := dk_44 (dk_at dksX0_sell_2 20 rfl rfl)
theorem dX0_sell_69 : decode cX0_sell 69 = .ok (.getfield 433, 3) := dk_180 1 177 (dk_at dksX0_sell_2 21 rfl rfl)
theorem dX0_sell_72 : decode cX0_sell 72 = .ok (.aload_n 0, 1) := dk_42 (dk_at dksX0_sell_3 0 rfl rfl)
theorem dX0_sell_73 : decode cX0_sell 73 = .ok (.getfield 156, 3) := dk_180 0 156 (dk_at dksX0_sell_3 1 rfl rfl)
theorem dX0_sell_76 : decode cX0_sell 76 = .ok (.aload_n 0, 1) := dk_42 (dk_at dksX0_sell_3 4 rfl rfl)
theorem dX0_sell_77 : decode cX0_sell 77 = .ok (.getfield 166, 3) := dk_180 0 166 (dk_at dksX0_sell_3 5 rfl rfl)
theorem dX0_sell_80 : decode cX0_sell 80 = .ok (.iload_n 1, 1) := dk_27 (dk_at dksX0_sell_3 8 rfl rfl)
theorem dX0_sell_81 : decode cX0_sell 81 = .ok (.iaload, 1) := dk_46 (dk_at dksX0_sell_3 9 rfl rfl)
theorem dX0_sell_82 : decode cX0_sell 82 = .ok (.aaload, 1) := dk_50 (dk_at dksX0_sell_3 10 rfl rfl)
theorem dX0_sell_83 : decode cX0_sell 83 = .ok (.getfield 478, 3) := dk_180 1 222 (dk_at dksX0_sell_3 11 rfl rfl)
theorem dX0_sell_86 : decode cX0_sell 86 = .ok (.imul, 1) := dk_104 (dk_at dksX0_sell_3 14 rfl rfl)
theorem dX0_sell_87 : decode cX0_sell 87 = .ok (.invokevirtual 487, 3) := dk_182 1 231 (dk_at dksX0_sell_3 15 rfl rfl)
theorem dX0_sell_90 : decode cX0_sell 90 = .ok (.iinc 1 1, 3) := dk_132 1 1 (dk_at dksX0_sell_3 18 rfl rfl)
theorem dX0_sell_93 : decode cX0_sell 93 = .ok (.goto (-87), 3) := dk_167 255 169 (dk_at dksX0_sell_3 21 rfl rfl)
theorem dX0_sell_96 : decode cX0_sell 96 = .ok (.aload_n 0, 1) := dk_42 (dk_at dksX0_sell_4 0 rfl rfl)
theorem dX0_sell_97 : decode cX0_sell 97 = .ok (.getfield 465, 3) := dk_180 1 209 (dk_at dksX0_sell_4 1 rfl rfl)
theorem dX0_sell_100 : decode cX0_sell 100 = .ok (.ireturn, 1) := dk_172 (dk_at dksX0_sell_4 4 rfl rfl)
abbrev cX0_whoseOf : ByteArray := prog_1_method_62_code
def yX0_whoseOf : MethodName := ⟨RX0, "whoseOf", "(III)I"⟩
def dkwX0_whoseOf_4 : List UInt8 := [167, 0, 10, 42, 180, 0, 172, 21, 4, 46, 172]
abbrev dktX0_whoseOf_4 : List UInt8 := dkwX0_whoseOf_4 ++ []
def dkwX0_whoseOf_3 : List UInt8 := [21, 4, 46, 161, 0, 7, 21, 5, 54, 4, 132, 5, 1, 167, 255, 181, 21, 4, 2, 160, 0, 7, 2]
abbrev dktX0_whoseOf_3 : List UInt8 := dkwX0_whoseOf_3 ++ dktX0_whoseOf_4
def dkwX0_whoseOf_2 : List UInt8 := [164, 0, 6, 167, 0, 30, 21, 4, 2, 159, 0, 20, 42, 180, 0, 175, 21, 5, 46, 42, 180, 0, 175]
abbrev dktX0_whoseOf_2 : List UInt8 := dkwX0_whoseOf_2 ++ dktX0_whoseOf_3
def dkwX0_whoseOf_1 : List UInt8 := [160, 0, 55, 42, 180, 0, 175, 21, 5, 46, 28, 163, 0, 44, 42, 180, 0, 178, 21, 5, 46, 29]
abbrev dktX0_whoseOf_1 : List UInt8 := dkwX0_whoseOf_1 ++ dktX0_whoseOf_2
def dkwX0_whoseOf_0 : List UInt8 := [2, 54, 4, 3, 54, 5, 21, 5, 42, 180, 1, 234, 162, 0, 72, 42, 180, 0, 169, 21, 5, 46, 27]
abbrev dktX0_whoseOf_0 : List UInt8 := dkwX0_whoseOf_0 ++ dktX0_whoseOf_1
theorem dksX0_whoseOf_0 : cX0_whoseOf.data.toList.drop 0 = dktX0_whoseOf_0 := by decide +kernel
theorem dksX0_whoseOf_1 : cX0_whoseOf.data.toList.drop 23 = dktX0_whoseOf_1 := dk_seg dksX0_whoseOf_0 23 rfl rfl
theorem dksX0_whoseOf_2 : cX0_whoseOf.data.toList.drop 45 = dktX0_whoseOf_2 := dk_seg dksX0_whoseOf_1 22 rfl rfl
theorem dksX0_whoseOf_3 : cX0_whoseOf.data.toList.drop 68 = dktX0_whoseOf_3 := dk_seg dksX0_whoseOf_2 23 rfl rfl
theorem dksX0_whoseOf_4 : cX0_whoseOf.data.toList.drop 91 = dktX0_whoseOf_4 := dk_seg dksX0_whoseOf_3 23 rfl rfl
theorem dX0_whoseOf_0 : decode cX0_whoseOf 0 = .ok (.iconst (-1), 1) := dk_2 (dk_at dksX0_whoseOf_0 0 rfl rfl)
theorem dX0_whoseOf_1 : decode cX0_whoseOf 1 = .ok (.istore 4, 2) := dk_54 4 (dk_at dksX0_whoseOf_0 1 rfl rfl)
theorem dX0_whoseOf_3 : decode cX0_whoseOf 3 = .ok (.iconst 0, 1) := dk_3 (dk_at dksX0_whoseOf_0 3 rfl rfl)
theorem dX0_whoseOf_4 : decode cX0_whoseOf 4 = .ok (.istore 5, 2) := dk_54 5 (dk_at dksX0_whoseOf_0 4 rfl rfl)
theorem dX0_whoseOf_6 : decode cX0_whoseOf 6 = .ok (.iload 5, 2) := dk_21 5 (dk_at dksX0_whoseOf_0 6 rfl rfl)
theorem dX0_whoseOf_8 : decode cX0_whoseOf 8 = .ok (.aload_n 0, 1) := dk_42 (dk_at dksX0_whoseOf_0 8 rfl rfl)
theorem dX0_whoseOf_9 : decode cX0_whoseOf 9 = .ok (.getfield 490, 3) := dk_180 1 234 (dk_at dksX0_whoseOf_0 9 rfl rfl)
theorem dX0_whoseOf_12 : decode cX0_whoseOf 12 = .ok (.if_icmp .ge 72, 3) := dk_162 0 72 (dk_at dksX0_whoseOf_0 12 rfl rfl)
theorem dX0_whoseOf_15 : decode cX0_whoseOf 15 = .ok (.aload_n 0, 1) := dk_42 (dk_at dksX0_whoseOf_0 15 rfl rfl)
theorem dX0_whoseOf_16 : decode cX0_whoseOf 16 = .ok (.getfield 169, 3) := dk_180 0 169 (dk_at dksX0_whoseOf_0 16 rfl rfl)
theorem dX0_whoseOf_19 : decode cX0_whoseOf 19 = .ok (.iload 5, 2) := dk_21 5 (dk_at dksX0_whoseOf_0 19 rfl rfl)
theorem dX0_whoseOf_21 : decode cX0_whoseOf 21 = .ok (.iaload, 1) := dk_46 (dk_at dksX0_whoseOf_0 21 rfl rfl)
theorem dX0_whoseOf_22 : decode cX0_whoseOf 22 = .ok (.iload_n 1, 1) := dk_27 (dk_at dksX0_whoseOf_0 22 rfl rfl)
theorem dX0_whoseOf_23 : decode cX0_whoseOf 23 = .ok (.if_icmp .ne 55, 3) := dk_160 0 55 (dk_at dksX0_whoseOf_1 0 rfl rfl)
theorem dX0_whoseOf_26 : decode cX0_whoseOf 26 = .ok (.aload_n 0, 1) := dk_42 (dk_at dksX0_whoseOf_1 3 rfl rfl)
theorem dX0_whoseOf_27 : decode cX0_whoseOf 27 = .ok (.getfield 175, 3) := dk_180 0 175 (dk_at dksX0_whoseOf_1 4 rfl rfl)
theorem dX0_whoseOf_30 : decode cX0_whoseOf 30 = .ok (.iload 5, 2) := dk_21 5 (dk_at dksX0_whoseOf_1 7 rfl rfl)
theorem dX0_whoseOf_32 : decode cX0_whoseOf 32 = .ok (.iaload, 1) := dk_46 (dk_at dksX0_whoseOf_1 9 rfl rfl)
theorem dX0_whoseOf_33 : decode cX0_whoseOf 33 = .ok (.iload_n 2, 1) := dk_28 (dk_at dksX0_whoseOf_1 10 rfl rfl)
theorem dX0_whoseOf_34 : decode cX0_whoseOf 34 = .ok (.if_icmp .gt 44, 3) := dk_163 0 44 (dk_at dksX0_whoseOf_1 11 rfl rfl)
theorem dX0_whoseOf_37 : decode cX0_whoseOf 37 = .ok (.aload_n 0, 1) := dk_42 (dk_at dksX0_whoseOf_1 14 rfl rfl)
theorem dX0_whoseOf_38 : decode cX0_whoseOf 38 = .ok (.getfield 178, 3) := dk_180 0 178 (dk_at dksX0_whoseOf_1 15 rfl rfl)
theorem dX0_whoseOf_41 : decode cX0_whoseOf 41 = .ok (.iload 5, 2) := dk_21 5 (dk_at dksX0_whoseOf_1 18 rfl rfl)
theorem dX0_whoseOf_43 : decode cX0_whoseOf 43 = .ok (.iaload, 1) := dk_46 (dk_at dksX0_whoseOf_1 20 rfl rfl)
theorem dX0_whoseOf_44 : decode cX0_whoseOf 44 = .ok (.iload_n 3, 1) := dk_29 (dk_at dksX0_whoseOf_1 21 rfl rfl)
theorem dX0_whoseOf_45 : decode cX0_whoseOf 45 = .ok (.if_icmp .le 6, 3) := dk_164 0 6 (dk_at dksX0_whoseOf_2 0 rfl rfl)
theorem dX0_whoseOf_48 : decode cX0_whoseOf 48 = .ok (.goto 30, 3) := dk_167 0 30 (dk_at dksX0_whoseOf_2 3 rfl rfl)
theorem dX0_whoseOf_51 : decode cX0_whoseOf 51 = .ok (.iload 4, 2) := dk_21 4 (dk_at dksX0_whoseOf_2 6 rfl rfl)
theorem dX0_whoseOf_53 : decode cX0_whoseOf 53 = .ok (.iconst (-1), 1) := dk_2 (dk_at dksX0_whoseOf_2 8 rfl rfl)
theorem dX0_whoseOf_54 : decode cX0_whoseOf 54 = .ok (.if_icmp .eq 20, 3) := dk_159 0 20 (dk_at dksX0_whoseOf_2 9 rfl rfl)
theorem dX0_whoseOf_57 : decode cX0_whoseOf 57 = .ok (.aload_n 0, 1) := dk_42 (dk_at dksX0_whoseOf_2 12 rfl rfl)
theorem dX0_whoseOf_58 : decode cX0_whoseOf 58 = .ok (.getfield 175, 3) := dk_180 0 175 (dk_at dksX0_whoseOf_2 13 rfl rfl)
theorem dX0_whoseOf_61 : decode cX0_whoseOf 61 = .ok (.iload 5, 2) := dk_21 5 (dk_at dksX0_whoseOf_2 16 rfl rfl)
theorem dX0_whoseOf_63 : decode cX0_whoseOf 63 = .ok (.iaload, 1) := dk_46 (dk_at dksX0_whoseOf_2 18 rfl rfl)
theorem dX0_whoseOf_64 : decode cX0_whoseOf 64 = .ok (.aload_n 0, 1) := dk_42 (dk_at dksX0_whoseOf_2 19 rfl rfl)
theorem dX0_whoseOf_65 : decode cX0_whoseOf 65 = .ok (.getfield 175, 3) := dk_180 0 175 (dk_at dksX0_whoseOf_2 20 rfl rfl)
theorem dX0_whoseOf_68 : decode cX0_whoseOf 68 = .ok (.iload 4, 2) := dk_21 4 (dk_at dksX0_whoseOf_3 0 rfl rfl)
theorem dX0_whoseOf_70 : decode cX0_whoseOf 70 = .ok (.iaload, 1) := dk_46 (dk_at dksX0_whoseOf_3 2 rfl rfl)
theorem dX0_whoseOf_71 : decode cX0_whoseOf 71 = .ok (.if_icmp .lt 7, 3) := dk_161 0 7 (dk_at dksX0_whoseOf_3 3 rfl rfl)
theorem dX0_whoseOf_74 : decode cX0_whoseOf 74 = .ok (.iload 5, 2) := dk_21 5 (dk_at dksX0_whoseOf_3 6 rfl rfl)
theorem dX0_whoseOf_76 : decode cX0_whoseOf 76 = .ok (.istore 4, 2) := dk_54 4 (dk_at dksX0_whoseOf_3 8 rfl rfl)
theorem dX0_whoseOf_78 : decode cX0_whoseOf 78 = .ok (.iinc 5 1, 3) := dk_132 5 1 (dk_at dksX0_whoseOf_3 10 rfl rfl)
theorem dX0_whoseOf_81 : decode cX0_whoseOf 81 = .ok (.goto (-75), 3) := dk_167 255 181 (dk_at dksX0_whoseOf_3 13 rfl rfl)
theorem dX0_whoseOf_84 : decode cX0_whoseOf 84 = .ok (.iload 4, 2) := dk_21 4 (dk_at dksX0_whoseOf_3 16 rfl rfl)
theorem dX0_whoseOf_86 : decode cX0_whoseOf 86 = .ok (.iconst (-1), 1) := dk_2 (dk_at dksX0_whoseOf_3 18 rfl rfl)
theorem dX0_whoseOf_87 : decode cX0_whoseOf 87 = .ok (.if_icmp .ne 7, 3) := dk_160 0 7 (dk_at dksX0_whoseOf_3 19 rfl rfl)
theorem dX0_whoseOf_90 : decode cX0_whoseOf 90 = .ok (.iconst (-1), 1) := dk_2 (dk_at dksX0_whoseOf_3 22 rfl rfl)
theorem dX0_whoseOf_91 : decode cX0_whoseOf 91 = .ok (.goto 10, 3) := dk_167 0 10 (dk_at dksX0_whoseOf_4 0 rfl rfl)
theorem dX0_whoseOf_94 : decode cX0_whoseOf 94 = .ok (.aload_n 0, 1) := dk_42 (dk_at dksX0_whoseOf_4 3 rfl rfl)
theorem dX0_whoseOf_95 : decode cX0_whoseOf 95 = .ok (.getfield 172, 3) := dk_180 0 172 (dk_at dksX0_whoseOf_4 4 rfl rfl)
theorem dX0_whoseOf_98 : decode cX0_whoseOf 98 = .ok (.iload 4, 2) := dk_21 4 (dk_at dksX0_whoseOf_4 7 rfl rfl)
theorem dX0_whoseOf_100 : decode cX0_whoseOf 100 = .ok (.iaload, 1) := dk_46 (dk_at dksX0_whoseOf_4 9 rfl rfl)
theorem dX0_whoseOf_101 : decode cX0_whoseOf 101 = .ok (.ireturn, 1) := dk_172 (dk_at dksX0_whoseOf_4 10 rfl rfl)
abbrev cX0_village : ByteArray := prog_1_method_60_code
def yX0_village : MethodName := ⟨RX0, "village", "(I)I"⟩
def dkwX0_village_0 : List UInt8 := [27, 3, 4, 184, 0, 199, 153, 0, 12, 42, 180, 0, 145, 27, 46, 167, 0, 4, 2, 172]
abbrev dktX0_village_0 : List UInt8 := dkwX0_village_0 ++ []
theorem dksX0_village_0 : cX0_village.data.toList.drop 0 = dktX0_village_0 := by decide +kernel
theorem dX0_village_0 : decode cX0_village 0 = .ok (.iload_n 1, 1) := dk_27 (dk_at dksX0_village_0 0 rfl rfl)
theorem dX0_village_1 : decode cX0_village 1 = .ok (.iconst 0, 1) := dk_3 (dk_at dksX0_village_0 1 rfl rfl)
theorem dX0_village_2 : decode cX0_village 2 = .ok (.iconst 1, 1) := dk_4 (dk_at dksX0_village_0 2 rfl rfl)
theorem dX0_village_3 : decode cX0_village 3 = .ok (.invokestatic 199, 3) := dk_184 0 199 (dk_at dksX0_village_0 3 rfl rfl)
theorem dX0_village_6 : decode cX0_village 6 = .ok (.ifCond .eq 12, 3) := dk_153 0 12 (dk_at dksX0_village_0 6 rfl rfl)
theorem dX0_village_9 : decode cX0_village 9 = .ok (.aload_n 0, 1) := dk_42 (dk_at dksX0_village_0 9 rfl rfl)
theorem dX0_village_10 : decode cX0_village 10 = .ok (.getfield 145, 3) := dk_180 0 145 (dk_at dksX0_village_0 10 rfl rfl)
theorem dX0_village_13 : decode cX0_village 13 = .ok (.iload_n 1, 1) := dk_27 (dk_at dksX0_village_0 13 rfl rfl)
theorem dX0_village_14 : decode cX0_village 14 = .ok (.iaload, 1) := dk_46 (dk_at dksX0_village_0 14 rfl rfl)
theorem dX0_village_15 : decode cX0_village 15 = .ok (.goto 4, 3) := dk_167 0 4 (dk_at dksX0_village_0 15 rfl rfl)
theorem dX0_village_18 : decode cX0_village 18 = .ok (.iconst (-1), 1) := dk_2 (dk_at dksX0_village_0 18 rfl rfl)
theorem dX0_village_19 : decode cX0_village 19 = .ok (.ireturn, 1) := dk_172 (dk_at dksX0_village_0 19 rfl rfl)
abbrev cX0_claim : ByteArray := prog_1_method_61_code
def yX0_claim : MethodName := ⟨RX0, "claim", "(III)I"⟩
def dkwX0_claim_3 : List UInt8 := [42, 180, 1, 234, 42, 180, 0, 193, 79, 42, 89, 180, 1, 234, 4, 96, 181, 1, 234, 42, 180, 1, 234, 172]
abbrev dktX0_claim_3 : List UInt8 := dkwX0_claim_3 ++ []
def dkwX0_claim_2 : List UInt8 := [42, 180, 0, 172, 42, 180, 1, 234, 28, 79, 42, 180, 0, 175, 42, 180, 1, 234, 29, 79, 42, 180, 0, 178]
abbrev dktX0_claim_2 : List UInt8 := dkwX0_claim_2 ++ dktX0_claim_3
def dkwX0_claim_1 : List UInt8 := [153, 0, 12, 42, 180, 1, 234, 16, 100, 160, 0, 5, 2, 172, 42, 180, 0, 169, 42, 180, 1, 234, 27, 79]
abbrev dktX0_claim_1 : List UInt8 := dkwX0_claim_1 ++ dktX0_claim_2
def dkwX0_claim_0 : List UInt8 := [42, 27, 182, 0, 214, 153, 0, 31, 28, 2, 4, 184, 0, 199, 153, 0, 22, 29, 3, 16, 39, 184, 0, 199]
abbrev dktX0_claim_0 : List UInt8 := dkwX0_claim_0 ++ dktX0_claim_1
theorem dksX0_claim_0 : cX0_claim.data.toList.drop 0 = dktX0_claim_0 := by decide +kernel
theorem dksX0_claim_1 : cX0_claim.data.toList.drop 24 = dktX0_claim_1 := dk_seg dksX0_claim_0 24 rfl rfl
theorem dksX0_claim_2 : cX0_claim.data.toList.drop 48 = dktX0_claim_2 := dk_seg dksX0_claim_1 24 rfl rfl
theorem dksX0_claim_3 : cX0_claim.data.toList.drop 72 = dktX0_claim_3 := dk_seg dksX0_claim_2 24 rfl rfl
theorem dX0_claim_0 : decode cX0_claim 0 = .ok (.aload_n 0, 1) := dk_42 (dk_at dksX0_claim_0 0 rfl rfl)
theorem dX0_claim_1 : decode cX0_claim 1 = .ok (.iload_n 1, 1) := dk_27 (dk_at dksX0_claim_0 1 rfl rfl)
theorem dX0_claim_2 : decode cX0_claim 2 = .ok (.invokevirtual 214, 3) := dk_182 0 214 (dk_at dksX0_claim_0 2 rfl rfl)
theorem dX0_claim_5 : decode cX0_claim 5 = .ok (.ifCond .eq 31, 3) := dk_153 0 31 (dk_at dksX0_claim_0 5 rfl rfl)
theorem dX0_claim_8 : decode cX0_claim 8 = .ok (.iload_n 2, 1) := dk_28 (dk_at dksX0_claim_0 8 rfl rfl)
theorem dX0_claim_9 : decode cX0_claim 9 = .ok (.iconst (-1), 1) := dk_2 (dk_at dksX0_claim_0 9 rfl rfl)
theorem dX0_claim_10 : decode cX0_claim 10 = .ok (.iconst 1, 1) := dk_4 (dk_at dksX0_claim_0 10 rfl rfl)
theorem dX0_claim_11 : decode cX0_claim 11 = .ok (.invokestatic 199, 3) := dk_184 0 199 (dk_at dksX0_claim_0 11 rfl rfl)
theorem dX0_claim_14 : decode cX0_claim 14 = .ok (.ifCond .eq 22, 3) := dk_153 0 22 (dk_at dksX0_claim_0 14 rfl rfl)
theorem dX0_claim_17 : decode cX0_claim 17 = .ok (.iload_n 3, 1) := dk_29 (dk_at dksX0_claim_0 17 rfl rfl)
theorem dX0_claim_18 : decode cX0_claim 18 = .ok (.iconst 0, 1) := dk_3 (dk_at dksX0_claim_0 18 rfl rfl)
theorem dX0_claim_19 : decode cX0_claim 19 = .ok (.bipush 39, 2) := dk_16 39 (dk_at dksX0_claim_0 19 rfl rfl)
theorem dX0_claim_21 : decode cX0_claim 21 = .ok (.invokestatic 199, 3) := dk_184 0 199 (dk_at dksX0_claim_0 21 rfl rfl)
theorem dX0_claim_24 : decode cX0_claim 24 = .ok (.ifCond .eq 12, 3) := dk_153 0 12 (dk_at dksX0_claim_1 0 rfl rfl)
theorem dX0_claim_27 : decode cX0_claim 27 = .ok (.aload_n 0, 1) := dk_42 (dk_at dksX0_claim_1 3 rfl rfl)
theorem dX0_claim_28 : decode cX0_claim 28 = .ok (.getfield 490, 3) := dk_180 1 234 (dk_at dksX0_claim_1 4 rfl rfl)
theorem dX0_claim_31 : decode cX0_claim 31 = .ok (.bipush 100, 2) := dk_16 100 (dk_at dksX0_claim_1 7 rfl rfl)
theorem dX0_claim_33 : decode cX0_claim 33 = .ok (.if_icmp .ne 5, 3) := dk_160 0 5 (dk_at dksX0_claim_1 9 rfl rfl)
theorem dX0_claim_36 : decode cX0_claim 36 = .ok (.iconst (-1), 1) := dk_2 (dk_at dksX0_claim_1 12 rfl rfl)
theorem dX0_claim_37 : decode cX0_claim 37 = .ok (.ireturn, 1) := dk_172 (dk_at dksX0_claim_1 13 rfl rfl)
theorem dX0_claim_38 : decode cX0_claim 38 = .ok (.aload_n 0, 1) := dk_42 (dk_at dksX0_claim_1 14 rfl rfl)
theorem dX0_claim_39 : decode cX0_claim 39 = .ok (.getfield 169, 3) := dk_180 0 169 (dk_at dksX0_claim_1 15 rfl rfl)
theorem dX0_claim_42 : decode cX0_claim 42 = .ok (.aload_n 0, 1) := dk_42 (dk_at dksX0_claim_1 18 rfl rfl)
theorem dX0_claim_43 : decode cX0_claim 43 = .ok (.getfield 490, 3) := dk_180 1 234 (dk_at dksX0_claim_1 19 rfl rfl)
theorem dX0_claim_46 : decode cX0_claim 46 = .ok (.iload_n 1, 1) := dk_27 (dk_at dksX0_claim_1 22 rfl rfl)
theorem dX0_claim_47 : decode cX0_claim 47 = .ok (.iastore, 1) := dk_79 (dk_at dksX0_claim_1 23 rfl rfl)
theorem dX0_claim_48 : decode cX0_claim 48 = .ok (.aload_n 0, 1) := dk_42 (dk_at dksX0_claim_2 0 rfl rfl)
theorem dX0_claim_49 : decode cX0_claim 49 = .ok (.getfield 172, 3) := dk_180 0 172 (dk_at dksX0_claim_2 1 rfl rfl)
theorem dX0_claim_52 : decode cX0_claim 52 = .ok (.aload_n 0, 1) := dk_42 (dk_at dksX0_claim_2 4 rfl rfl)
theorem dX0_claim_53 : decode cX0_claim 53 = .ok (.getfield 490, 3) := dk_180 1 234 (dk_at dksX0_claim_2 5 rfl rfl)
theorem dX0_claim_56 : decode cX0_claim 56 = .ok (.iload_n 2, 1) := dk_28 (dk_at dksX0_claim_2 8 rfl rfl)
theorem dX0_claim_57 : decode cX0_claim 57 = .ok (.iastore, 1) := dk_79 (dk_at dksX0_claim_2 9 rfl rfl)
theorem dX0_claim_58 : decode cX0_claim 58 = .ok (.aload_n 0, 1) := dk_42 (dk_at dksX0_claim_2 10 rfl rfl)
theorem dX0_claim_59 : decode cX0_claim 59 = .ok (.getfield 175, 3) := dk_180 0 175 (dk_at dksX0_claim_2 11 rfl rfl)
theorem dX0_claim_62 : decode cX0_claim 62 = .ok (.aload_n 0, 1) := dk_42 (dk_at dksX0_claim_2 14 rfl rfl)
theorem dX0_claim_63 : decode cX0_claim 63 = .ok (.getfield 490, 3) := dk_180 1 234 (dk_at dksX0_claim_2 15 rfl rfl)
theorem dX0_claim_66 : decode cX0_claim 66 = .ok (.iload_n 3, 1) := dk_29 (dk_at dksX0_claim_2 18 rfl rfl)
theorem dX0_claim_67 : decode cX0_claim 67 = .ok (.iastore, 1) := dk_79 (dk_at dksX0_claim_2 19 rfl rfl)
theorem dX0_claim_68 : decode cX0_claim 68 = .ok (.aload_n 0, 1) := dk_42 (dk_at dksX0_claim_2 20 rfl rfl)
theorem dX0_claim_69 : decode cX0_claim 69 = .ok (.getfield 178, 3) := dk_180 0 178 (dk_at dksX0_claim_2 21 rfl rfl)
theorem dX0_claim_72 : decode cX0_claim 72 = .ok (.aload_n 0, 1) := dk_42 (dk_at dksX0_claim_3 0 rfl rfl)
theorem dX0_claim_73 : decode cX0_claim 73 = .ok (.getfield 490, 3) := dk_180 1 234 (dk_at dksX0_claim_3 1 rfl rfl)
theorem dX0_claim_76 : decode cX0_claim 76 = .ok (.aload_n 0, 1) := dk_42 (dk_at dksX0_claim_3 4 rfl rfl)
theorem dX0_claim_77 : decode cX0_claim 77 = .ok (.getfield 193, 3) := dk_180 0 193 (dk_at dksX0_claim_3 5 rfl rfl)
theorem dX0_claim_80 : decode cX0_claim 80 = .ok (.iastore, 1) := dk_79 (dk_at dksX0_claim_3 8 rfl rfl)
theorem dX0_claim_81 : decode cX0_claim 81 = .ok (.aload_n 0, 1) := dk_42 (dk_at dksX0_claim_3 9 rfl rfl)
theorem dX0_claim_82 : decode cX0_claim 82 = .ok (.dup, 1) := dk_89 (dk_at dksX0_claim_3 10 rfl rfl)
theorem dX0_claim_83 : decode cX0_claim 83 = .ok (.getfield 490, 3) := dk_180 1 234 (dk_at dksX0_claim_3 11 rfl rfl)
theorem dX0_claim_86 : decode cX0_claim 86 = .ok (.iconst 1, 1) := dk_4 (dk_at dksX0_claim_3 14 rfl rfl)
theorem dX0_claim_87 : decode cX0_claim 87 = .ok (.iadd, 1) := dk_96 (dk_at dksX0_claim_3 15 rfl rfl)
theorem dX0_claim_88 : decode cX0_claim 88 = .ok (.putfield 490, 3) := dk_181 1 234 (dk_at dksX0_claim_3 16 rfl rfl)
theorem dX0_claim_91 : decode cX0_claim 91 = .ok (.aload_n 0, 1) := dk_42 (dk_at dksX0_claim_3 19 rfl rfl)
theorem dX0_claim_92 : decode cX0_claim 92 = .ok (.getfield 490, 3) := dk_180 1 234 (dk_at dksX0_claim_3 20 rfl rfl)
theorem dX0_claim_95 : decode cX0_claim 95 = .ok (.ireturn, 1) := dk_172 (dk_at dksX0_claim_3 23 rfl rfl)
abbrev cX0_whose : ByteArray := prog_1_method_63_code
def yX0_whose : MethodName := ⟨RX0, "whose", "(III)I"⟩
def dkwX0_whose_1 : List UInt8 := [184, 0, 199, 153, 0, 13, 42, 27, 28, 29, 182, 1, 237, 167, 0, 5, 16, 254, 172]
abbrev dktX0_whose_1 : List UInt8 := dkwX0_whose_1 ++ []
def dkwX0_whose_0 : List UInt8 := [42, 27, 182, 0, 214, 153, 0, 35, 28, 3, 16, 39, 184, 0, 199, 153, 0, 25, 29, 3, 42, 180, 0, 193]
abbrev dktX0_whose_0 : List UInt8 := dkwX0_whose_0 ++ dktX0_whose_1
theorem dksX0_whose_0 : cX0_whose.data.toList.drop 0 = dktX0_whose_0 := by decide +kernel
theorem dksX0_whose_1 : cX0_whose.data.toList.drop 24 = dktX0_whose_1 := dk_seg dksX0_whose_0 24 rfl rfl
theorem dX0_whose_0 : decode cX0_whose 0 = .ok (.aload_n 0, 1) := dk_42 (dk_at dksX0_whose_0 0 rfl rfl)
theorem dX0_whose_1 : decode cX0_whose 1 = .ok (.iload_n 1, 1) := dk_27 (dk_at dksX0_whose_0 1 rfl rfl)
theorem dX0_whose_2 : decode cX0_whose 2 = .ok (.invokevirtual 214, 3) := dk_182 0 214 (dk_at dksX0_whose_0 2 rfl rfl)
theorem dX0_whose_5 : decode cX0_whose 5 = .ok (.ifCond .eq 35, 3) := dk_153 0 35 (dk_at dksX0_whose_0 5 rfl rfl)
theorem dX0_whose_8 : decode cX0_whose 8 = .ok (.iload_n 2, 1) := dk_28 (dk_at dksX0_whose_0 8 rfl rfl)
theorem dX0_whose_9 : decode cX0_whose 9 = .ok (.iconst 0, 1) := dk_3 (dk_at dksX0_whose_0 9 rfl rfl)
theorem dX0_whose_10 : decode cX0_whose 10 = .ok (.bipush 39, 2) := dk_16 39 (dk_at dksX0_whose_0 10 rfl rfl)
theorem dX0_whose_12 : decode cX0_whose 12 = .ok (.invokestatic 199, 3) := dk_184 0 199 (dk_at dksX0_whose_0 12 rfl rfl)
theorem dX0_whose_15 : decode cX0_whose 15 = .ok (.ifCond .eq 25, 3) := dk_153 0 25 (dk_at dksX0_whose_0 15 rfl rfl)
theorem dX0_whose_18 : decode cX0_whose 18 = .ok (.iload_n 3, 1) := dk_29 (dk_at dksX0_whose_0 18 rfl rfl)
theorem dX0_whose_19 : decode cX0_whose 19 = .ok (.iconst 0, 1) := dk_3 (dk_at dksX0_whose_0 19 rfl rfl)
theorem dX0_whose_20 : decode cX0_whose 20 = .ok (.aload_n 0, 1) := dk_42 (dk_at dksX0_whose_0 20 rfl rfl)
theorem dX0_whose_21 : decode cX0_whose 21 = .ok (.getfield 193, 3) := dk_180 0 193 (dk_at dksX0_whose_0 21 rfl rfl)
theorem dX0_whose_24 : decode cX0_whose 24 = .ok (.invokestatic 199, 3) := dk_184 0 199 (dk_at dksX0_whose_1 0 rfl rfl)
theorem dX0_whose_27 : decode cX0_whose 27 = .ok (.ifCond .eq 13, 3) := dk_153 0 13 (dk_at dksX0_whose_1 3 rfl rfl)
theorem dX0_whose_30 : decode cX0_whose 30 = .ok (.aload_n 0, 1) := dk_42 (dk_at dksX0_whose_1 6 rfl rfl)
theorem dX0_whose_31 : decode cX0_whose 31 = .ok (.iload_n 1, 1) := dk_27 (dk_at dksX0_whose_1 7 rfl rfl)
theorem dX0_whose_32 : decode cX0_whose 32 = .ok (.iload_n 2, 1) := dk_28 (dk_at dksX0_whose_1 8 rfl rfl)
theorem dX0_whose_33 : decode cX0_whose 33 = .ok (.iload_n 3, 1) := dk_29 (dk_at dksX0_whose_1 9 rfl rfl)
theorem dX0_whose_34 : decode cX0_whose 34 = .ok (.invokevirtual 493, 3) := dk_182 1 237 (dk_at dksX0_whose_1 10 rfl rfl)
theorem dX0_whose_37 : decode cX0_whose 37 = .ok (.goto 5, 3) := dk_167 0 5 (dk_at dksX0_whose_1 13 rfl rfl)
theorem dX0_whose_40 : decode cX0_whose 40 = .ok (.bipush (-2), 2) := dk_16 254 (dk_at dksX0_whose_1 16 rfl rfl)
theorem dX0_whose_42 : decode cX0_whose 42 = .ok (.ireturn, 1) := dk_172 (dk_at dksX0_whose_1 18 rfl rfl)
abbrev cX0_count : ByteArray := prog_1_method_64_code
def yX0_count : MethodName := ⟨RX0, "count", "(III)I"⟩
def dkwX0_count_5 : List UInt8 := [153, 0, 7, 3, 167, 0, 4, 4, 172]
abbrev dktX0_count_5 : List UInt8 := dkwX0_count_5 ++ []
def dkwX0_count_4 : List UInt8 := [21, 5, 153, 0, 7, 29, 167, 0, 12, 29, 25, 4, 180, 1, 241, 184, 0, 181, 181, 1, 241, 21, 5]
abbrev dktX0_count_4 : List UInt8 := dkwX0_count_4 ++ dktX0_count_5
def dkwX0_count_3 : List UInt8 := [21, 5, 153, 0, 7, 28, 167, 0, 12, 28, 25, 4, 180, 1, 240, 184, 0, 187, 181, 1, 240, 25, 4]
abbrev dktX0_count_3 : List UInt8 := dkwX0_count_3 ++ dktX0_count_4
def dkwX0_count_2 : List UInt8 := [184, 0, 187, 29, 25, 4, 180, 1, 241, 184, 0, 181, 164, 0, 7, 4, 167, 0, 4, 3, 54, 5, 25, 4]
abbrev dktX0_count_2 : List UInt8 := dkwX0_count_2 ++ dktX0_count_3
def dkwX0_count_1 : List UInt8 := [184, 0, 199, 154, 0, 5, 2, 172, 42, 180, 0, 11, 27, 50, 58, 4, 28, 25, 4, 180, 1, 240]
abbrev dktX0_count_1 : List UInt8 := dkwX0_count_1 ++ dktX0_count_2
def dkwX0_count_0 : List UInt8 := [42, 27, 182, 0, 214, 153, 0, 23, 28, 3, 16, 9, 184, 0, 199, 153, 0, 13, 29, 28, 16, 9]
abbrev dktX0_count_0 : List UInt8 := dkwX0_count_0 ++ dktX0_count_1
theorem dksX0_count_0 : cX0_count.data.toList.drop 0 = dktX0_count_0 := by decide +kernel
theorem dksX0_count_1 : cX0_count.data.toList.drop 22 = dktX0_count_1 := dk_seg dksX0_count_0 22 rfl rfl
theorem dksX0_count_2 : cX0_count.data.toList.drop 44 = dktX0_count_2 := dk_seg dksX0_count_1 22 rfl rfl
theorem dksX0_count_3 : cX0_count.data.toList.drop 68 = dktX0_count_3 := dk_seg dksX0_count_2 24 rfl rfl
theorem dksX0_count_4 : cX0_count.data.toList.drop 91 = dktX0_count_4 := dk_seg dksX0_count_3 23 rfl rfl
theorem dksX0_count_5 : cX0_count.data.toList.drop 114 = dktX0_count_5 := dk_seg dksX0_count_4 23 rfl rfl
theorem dX0_count_0 : decode cX0_count 0 = .ok (.aload_n 0, 1) := dk_42 (dk_at dksX0_count_0 0 rfl rfl)
theorem dX0_count_1 : decode cX0_count 1 = .ok (.iload_n 1, 1) := dk_27 (dk_at dksX0_count_0 1 rfl rfl)
theorem dX0_count_2 : decode cX0_count 2 = .ok (.invokevirtual 214, 3) := dk_182 0 214 (dk_at dksX0_count_0 2 rfl rfl)
theorem dX0_count_5 : decode cX0_count 5 = .ok (.ifCond .eq 23, 3) := dk_153 0 23 (dk_at dksX0_count_0 5 rfl rfl)
theorem dX0_count_8 : decode cX0_count 8 = .ok (.iload_n 2, 1) := dk_28 (dk_at dksX0_count_0 8 rfl rfl)
theorem dX0_count_9 : decode cX0_count 9 = .ok (.iconst 0, 1) := dk_3 (dk_at dksX0_count_0 9 rfl rfl)
theorem dX0_count_10 : decode cX0_count 10 = .ok (.bipush 9, 2) := dk_16 9 (dk_at dksX0_count_0 10 rfl rfl)
theorem dX0_count_12 : decode cX0_count 12 = .ok (.invokestatic 199, 3) := dk_184 0 199 (dk_at dksX0_count_0 12 rfl rfl)
theorem dX0_count_15 : decode cX0_count 15 = .ok (.ifCond .eq 13, 3) := dk_153 0 13 (dk_at dksX0_count_0 15 rfl rfl)
theorem dX0_count_18 : decode cX0_count 18 = .ok (.iload_n 3, 1) := dk_29 (dk_at dksX0_count_0 18 rfl rfl)
theorem dX0_count_19 : decode cX0_count 19 = .ok (.iload_n 2, 1) := dk_28 (dk_at dksX0_count_0 19 rfl rfl)
theorem dX0_count_20 : decode cX0_count 20 = .ok (.bipush 9, 2) := dk_16 9 (dk_at dksX0_count_0 20 rfl rfl)
theorem dX0_count_22 : decode cX0_count 22 = .ok (.invokestatic 199, 3) := dk_184 0 199 (dk_at dksX0_count_1 0 rfl rfl)
theorem dX0_count_25 : decode cX0_count 25 = .ok (.ifCond .ne 5, 3) := dk_154 0 5 (dk_at dksX0_count_1 3 rfl rfl)
theorem dX0_count_28 : decode cX0_count 28 = .ok (.iconst (-1), 1) := dk_2 (dk_at dksX0_count_1 6 rfl rfl)
theorem dX0_count_29 : decode cX0_count 29 = .ok (.ireturn, 1) := dk_172 (dk_at dksX0_count_1 7 rfl rfl)
theorem dX0_count_30 : decode cX0_count 30 = .ok (.aload_n 0, 1) := dk_42 (dk_at dksX0_count_1 8 rfl rfl)
theorem dX0_count_31 : decode cX0_count 31 = .ok (.getfield 11, 3) := dk_180 0 11 (dk_at dksX0_count_1 9 rfl rfl)
theorem dX0_count_34 : decode cX0_count 34 = .ok (.iload_n 1, 1) := dk_27 (dk_at dksX0_count_1 12 rfl rfl)
theorem dX0_count_35 : decode cX0_count 35 = .ok (.aaload, 1) := dk_50 (dk_at dksX0_count_1 13 rfl rfl)
theorem dX0_count_36 : decode cX0_count 36 = .ok (.astore 4, 2) := dk_58 4 (dk_at dksX0_count_1 14 rfl rfl)
theorem dX0_count_38 : decode cX0_count 38 = .ok (.iload_n 2, 1) := dk_28 (dk_at dksX0_count_1 16 rfl rfl)
theorem dX0_count_39 : decode cX0_count 39 = .ok (.aload 4, 2) := dk_25 4 (dk_at dksX0_count_1 17 rfl rfl)
theorem dX0_count_41 : decode cX0_count 41 = .ok (.getfield 496, 3) := dk_180 1 240 (dk_at dksX0_count_1 19 rfl rfl)
theorem dX0_count_44 : decode cX0_count 44 = .ok (.invokestatic 187, 3) := dk_184 0 187 (dk_at dksX0_count_2 0 rfl rfl)
theorem dX0_count_47 : decode cX0_count 47 = .ok (.iload_n 3, 1) := dk_29 (dk_at dksX0_count_2 3 rfl rfl)
theorem dX0_count_48 : decode cX0_count 48 = .ok (.aload 4, 2) := dk_25 4 (dk_at dksX0_count_2 4 rfl rfl)
theorem dX0_count_50 : decode cX0_count 50 = .ok (.getfield 497, 3) := dk_180 1 241 (dk_at dksX0_count_2 6 rfl rfl)
theorem dX0_count_53 : decode cX0_count 53 = .ok (.invokestatic 181, 3) := dk_184 0 181 (dk_at dksX0_count_2 9 rfl rfl)
theorem dX0_count_56 : decode cX0_count 56 = .ok (.if_icmp .le 7, 3) := dk_164 0 7 (dk_at dksX0_count_2 12 rfl rfl)
theorem dX0_count_59 : decode cX0_count 59 = .ok (.iconst 1, 1) := dk_4 (dk_at dksX0_count_2 15 rfl rfl)
theorem dX0_count_60 : decode cX0_count 60 = .ok (.goto 4, 3) := dk_167 0 4 (dk_at dksX0_count_2 16 rfl rfl)
theorem dX0_count_63 : decode cX0_count 63 = .ok (.iconst 0, 1) := dk_3 (dk_at dksX0_count_2 19 rfl rfl)
theorem dX0_count_64 : decode cX0_count 64 = .ok (.istore 5, 2) := dk_54 5 (dk_at dksX0_count_2 20 rfl rfl)
theorem dX0_count_66 : decode cX0_count 66 = .ok (.aload 4, 2) := dk_25 4 (dk_at dksX0_count_2 22 rfl rfl)
theorem dX0_count_68 : decode cX0_count 68 = .ok (.iload 5, 2) := dk_21 5 (dk_at dksX0_count_3 0 rfl rfl)
theorem dX0_count_70 : decode cX0_count 70 = .ok (.ifCond .eq 7, 3) := dk_153 0 7 (dk_at dksX0_count_3 2 rfl rfl)
theorem dX0_count_73 : decode cX0_count 73 = .ok (.iload_n 2, 1) := dk_28 (dk_at dksX0_count_3 5 rfl rfl)
theorem dX0_count_74 : decode cX0_count 74 = .ok (.goto 12, 3) := dk_167 0 12 (dk_at dksX0_count_3 6 rfl rfl)
theorem dX0_count_77 : decode cX0_count 77 = .ok (.iload_n 2, 1) := dk_28 (dk_at dksX0_count_3 9 rfl rfl)
theorem dX0_count_78 : decode cX0_count 78 = .ok (.aload 4, 2) := dk_25 4 (dk_at dksX0_count_3 10 rfl rfl)
theorem dX0_count_80 : decode cX0_count 80 = .ok (.getfield 496, 3) := dk_180 1 240 (dk_at dksX0_count_3 12 rfl rfl)
theorem dX0_count_83 : decode cX0_count 83 = .ok (.invokestatic 187, 3) := dk_184 0 187 (dk_at dksX0_count_3 15 rfl rfl)
theorem dX0_count_86 : decode cX0_count 86 = .ok (.putfield 496, 3) := dk_181 1 240 (dk_at dksX0_count_3 18 rfl rfl)
theorem dX0_count_89 : decode cX0_count 89 = .ok (.aload 4, 2) := dk_25 4 (dk_at dksX0_count_3 21 rfl rfl)
theorem dX0_count_91 : decode cX0_count 91 = .ok (.iload 5, 2) := dk_21 5 (dk_at dksX0_count_4 0 rfl rfl)
theorem dX0_count_93 : decode cX0_count 93 = .ok (.ifCond .eq 7, 3) := dk_153 0 7 (dk_at dksX0_count_4 2 rfl rfl)
theorem dX0_count_96 : decode cX0_count 96 = .ok (.iload_n 3, 1) := dk_29 (dk_at dksX0_count_4 5 rfl rfl)
theorem dX0_count_97 : decode cX0_count 97 = .ok (.goto 12, 3) := dk_167 0 12 (dk_at dksX0_count_4 6 rfl rfl)
theorem dX0_count_100 : decode cX0_count 100 = .ok (.iload_n 3, 1) := dk_29 (dk_at dksX0_count_4 9 rfl rfl)
theorem dX0_count_101 : decode cX0_count 101 = .ok (.aload 4, 2) := dk_25 4 (dk_at dksX0_count_4 10 rfl rfl)
theorem dX0_count_103 : decode cX0_count 103 = .ok (.getfield 497, 3) := dk_180 1 241 (dk_at dksX0_count_4 12 rfl rfl)
theorem dX0_count_106 : decode cX0_count 106 = .ok (.invokestatic 181, 3) := dk_184 0 181 (dk_at dksX0_count_4 15 rfl rfl)
theorem dX0_count_109 : decode cX0_count 109 = .ok (.putfield 497, 3) := dk_181 1 241 (dk_at dksX0_count_4 18 rfl rfl)
theorem dX0_count_112 : decode cX0_count 112 = .ok (.iload 5, 2) := dk_21 5 (dk_at dksX0_count_4 21 rfl rfl)
theorem dX0_count_114 : decode cX0_count 114 = .ok (.ifCond .eq 7, 3) := dk_153 0 7 (dk_at dksX0_count_5 0 rfl rfl)
theorem dX0_count_117 : decode cX0_count 117 = .ok (.iconst 0, 1) := dk_3 (dk_at dksX0_count_5 3 rfl rfl)
theorem dX0_count_118 : decode cX0_count 118 = .ok (.goto 4, 3) := dk_167 0 4 (dk_at dksX0_count_5 4 rfl rfl)
theorem dX0_count_121 : decode cX0_count 121 = .ok (.iconst 1, 1) := dk_4 (dk_at dksX0_count_5 7 rfl rfl)
theorem dX0_count_122 : decode cX0_count 122 = .ok (.ireturn, 1) := dk_172 (dk_at dksX0_count_5 8 rfl rfl)
abbrev cX0_guess : ByteArray := prog_1_method_65_code
def yX0_guess : MethodName := ⟨RX0, "guess", "(II)I"⟩
def dkwX0_guess_2 : List UInt8 := [172]
abbrev dktX0_guess_2 : List UInt8 := dkwX0_guess_2 ++ []
def dkwX0_guess_1 : List UInt8 := [180, 0, 11, 27, 50, 180, 1, 240, 167, 0, 16, 42, 180, 0, 11, 27, 50, 180, 1, 241, 167, 0, 4, 2]
abbrev dktX0_guess_1 : List UInt8 := dkwX0_guess_1 ++ dktX0_guess_2
def dkwX0_guess_0 : List UInt8 := [42, 27, 182, 0, 214, 153, 0, 40, 28, 3, 4, 184, 0, 199, 153, 0, 31, 28, 154, 0, 15, 42]
abbrev dktX0_guess_0 : List UInt8 := dkwX0_guess_0 ++ dktX0_guess_1
theorem dksX0_guess_0 : cX0_guess.data.toList.drop 0 = dktX0_guess_0 := by decide +kernel
theorem dksX0_guess_1 : cX0_guess.data.toList.drop 22 = dktX0_guess_1 := dk_seg dksX0_guess_0 22 rfl rfl
theorem dksX0_guess_2 : cX0_guess.data.toList.drop 46 = dktX0_guess_2 := dk_seg dksX0_guess_1 24 rfl rfl
theorem dX0_guess_0 : decode cX0_guess 0 = .ok (.aload_n 0, 1) := dk_42 (dk_at dksX0_guess_0 0 rfl rfl)
theorem dX0_guess_1 : decode cX0_guess 1 = .ok (.iload_n 1, 1) := dk_27 (dk_at dksX0_guess_0 1 rfl rfl)
theorem dX0_guess_2 : decode cX0_guess 2 = .ok (.invokevirtual 214, 3) := dk_182 0 214 (dk_at dksX0_guess_0 2 rfl rfl)
theorem dX0_guess_5 : decode cX0_guess 5 = .ok (.ifCond .eq 40, 3) := dk_153 0 40 (dk_at dksX0_guess_0 5 rfl rfl)
theorem dX0_guess_8 : decode cX0_guess 8 = .ok (.iload_n 2, 1) := dk_28 (dk_at dksX0_guess_0 8 rfl rfl)
theorem dX0_guess_9 : decode cX0_guess 9 = .ok (.iconst 0, 1) := dk_3 (dk_at dksX0_guess_0 9 rfl rfl)
theorem dX0_guess_10 : decode cX0_guess 10 = .ok (.iconst 1, 1) := dk_4 (dk_at dksX0_guess_0 10 rfl rfl)
theorem dX0_guess_11 : decode cX0_guess 11 = .ok (.invokestatic 199, 3) := dk_184 0 199 (dk_at dksX0_guess_0 11 rfl rfl)
theorem dX0_guess_14 : decode cX0_guess 14 = .ok (.ifCond .eq 31, 3) := dk_153 0 31 (dk_at dksX0_guess_0 14 rfl rfl)
theorem dX0_guess_17 : decode cX0_guess 17 = .ok (.iload_n 2, 1) := dk_28 (dk_at dksX0_guess_0 17 rfl rfl)
theorem dX0_guess_18 : decode cX0_guess 18 = .ok (.ifCond .ne 15, 3) := dk_154 0 15 (dk_at dksX0_guess_0 18 rfl rfl)
theorem dX0_guess_21 : decode cX0_guess 21 = .ok (.aload_n 0, 1) := dk_42 (dk_at dksX0_guess_0 21 rfl rfl)
theorem dX0_guess_22 : decode cX0_guess 22 = .ok (.getfield 11, 3) := dk_180 0 11 (dk_at dksX0_guess_1 0 rfl rfl)
theorem dX0_guess_25 : decode cX0_guess 25 = .ok (.iload_n 1, 1) := dk_27 (dk_at dksX0_guess_1 3 rfl rfl)
theorem dX0_guess_26 : decode cX0_guess 26 = .ok (.aaload, 1) := dk_50 (dk_at dksX0_guess_1 4 rfl rfl)
theorem dX0_guess_27 : decode cX0_guess 27 = .ok (.getfield 496, 3) := dk_180 1 240 (dk_at dksX0_guess_1 5 rfl rfl)
theorem dX0_guess_30 : decode cX0_guess 30 = .ok (.goto 16, 3) := dk_167 0 16 (dk_at dksX0_guess_1 8 rfl rfl)
theorem dX0_guess_33 : decode cX0_guess 33 = .ok (.aload_n 0, 1) := dk_42 (dk_at dksX0_guess_1 11 rfl rfl)
theorem dX0_guess_34 : decode cX0_guess 34 = .ok (.getfield 11, 3) := dk_180 0 11 (dk_at dksX0_guess_1 12 rfl rfl)
theorem dX0_guess_37 : decode cX0_guess 37 = .ok (.iload_n 1, 1) := dk_27 (dk_at dksX0_guess_1 15 rfl rfl)
theorem dX0_guess_38 : decode cX0_guess 38 = .ok (.aaload, 1) := dk_50 (dk_at dksX0_guess_1 16 rfl rfl)
theorem dX0_guess_39 : decode cX0_guess 39 = .ok (.getfield 497, 3) := dk_180 1 241 (dk_at dksX0_guess_1 17 rfl rfl)
theorem dX0_guess_42 : decode cX0_guess 42 = .ok (.goto 4, 3) := dk_167 0 4 (dk_at dksX0_guess_1 20 rfl rfl)
theorem dX0_guess_45 : decode cX0_guess 45 = .ok (.iconst (-1), 1) := dk_2 (dk_at dksX0_guess_1 23 rfl rfl)
theorem dX0_guess_46 : decode cX0_guess 46 = .ok (.ireturn, 1) := dk_172 (dk_at dksX0_guess_2 0 rfl rfl)
abbrev cX0_foreseen : ByteArray := prog_1_method_66_code
def yX0_foreseen : MethodName := ⟨RX0, "foreseen", "(III)I"⟩
def dkwX0_foreseen_10 : List UInt8 := [154, 0, 8, 21, 5, 167, 0, 11, 42, 42, 180, 0, 15, 182, 1, 24, 172]
abbrev dktX0_foreseen_10 : List UInt8 := dkwX0_foreseen_10 ++ []
def dkwX0_foreseen_9 : List UInt8 := [132, 7, 1, 167, 255, 163, 132, 4, 1, 42, 42, 180, 0, 15, 182, 1, 4, 132, 6, 1, 167, 255, 111, 29]
abbrev dktX0_foreseen_9 : List UInt8 := dkwX0_foreseen_9 ++ dktX0_foreseen_10
def dkwX0_foreseen_8 : List UInt8 := [167, 0, 24, 21, 5, 21, 10, 96, 54, 5, 25, 8, 25, 8, 180, 0, 220, 21, 10, 100, 182, 1, 162, 88]
abbrev dktX0_foreseen_8 : List UInt8 := dkwX0_foreseen_8 ++ dktX0_foreseen_9
def dkwX0_foreseen_7 : List UInt8 := [100, 54, 10, 25, 9, 180, 1, 73, 154, 0, 40, 25, 8, 180, 0, 226, 154, 0, 32, 21, 10, 157, 0, 6]
abbrev dktX0_foreseen_7 : List UInt8 := dkwX0_foreseen_7 ++ dktX0_foreseen_8
def dkwX0_foreseen_6 : List UInt8 := [42, 27, 25, 8, 21, 4, 3, 182, 1, 80, 58, 9, 25, 8, 180, 0, 220, 25, 8, 25, 9, 184, 1, 84]
abbrev dktX0_foreseen_6 : List UInt8 := dkwX0_foreseen_6 ++ dktX0_foreseen_7
def dkwX0_foreseen_5 : List UInt8 := [167, 255, 233, 3, 54, 7, 21, 7, 42, 180, 0, 196, 162, 0, 90, 42, 180, 0, 15, 21, 7, 50, 58, 8]
abbrev dktX0_foreseen_5 : List UInt8 := dkwX0_foreseen_5 ++ dktX0_foreseen_6
def dkwX0_foreseen_4 : List UInt8 := [21, 4, 16, 60, 112, 16, 59, 162, 0, 19, 42, 42, 180, 0, 15, 21, 4, 182, 1, 0, 132, 4, 1]
abbrev dktX0_foreseen_4 : List UInt8 := dkwX0_foreseen_4 ++ dktX0_foreseen_5
def dkwX0_foreseen_3 : List UInt8 := [132, 4, 1, 167, 255, 227, 42, 180, 0, 193, 54, 4, 3, 54, 5, 3, 54, 6, 21, 6, 28, 162, 0, 145]
abbrev dktX0_foreseen_3 : List UInt8 := dkwX0_foreseen_3 ++ dktX0_foreseen_4
def dkwX0_foreseen_2 : List UInt8 := [180, 0, 196, 162, 0, 26, 42, 180, 0, 15, 21, 4, 50, 42, 180, 0, 11, 21, 4, 50, 182, 1, 242]
abbrev dktX0_foreseen_2 : List UInt8 := dkwX0_foreseen_2 ++ dktX0_foreseen_3
def dkwX0_foreseen_1 : List UInt8 := [16, 40, 163, 0, 12, 29, 3, 4, 184, 0, 199, 154, 0, 5, 2, 172, 3, 54, 4, 21, 4, 42]
abbrev dktX0_foreseen_1 : List UInt8 := dkwX0_foreseen_1 ++ dktX0_foreseen_2
def dkwX0_foreseen_0 : List UInt8 := [27, 184, 1, 34, 153, 0, 33, 28, 4, 16, 8, 184, 0, 199, 153, 0, 23, 42, 182, 1, 9, 28, 96]
abbrev dktX0_foreseen_0 : List UInt8 := dkwX0_foreseen_0 ++ dktX0_foreseen_1
theorem dksX0_foreseen_0 : cX0_foreseen.data.toList.drop 0 = dktX0_foreseen_0 := by decide +kernel
theorem dksX0_foreseen_1 : cX0_foreseen.data.toList.drop 23 = dktX0_foreseen_1 := dk_seg dksX0_foreseen_0 23 rfl rfl
theorem dksX0_foreseen_2 : cX0_foreseen.data.toList.drop 45 = dktX0_foreseen_2 := dk_seg dksX0_foreseen_1 22 rfl rfl
theorem dksX0_foreseen_3 : cX0_foreseen.data.toList.drop 68 = dktX0_foreseen_3 := dk_seg dksX0_foreseen_2 23 rfl rfl
theorem dksX0_foreseen_4 : cX0_foreseen.data.toList.drop 92 = dktX0_foreseen_4 := dk_seg dksX0_foreseen_3 24 rfl rfl
theorem dksX0_foreseen_5 : cX0_foreseen.data.toList.drop 115 = dktX0_foreseen_5 := dk_seg dksX0_foreseen_4 23 rfl rfl
theorem dksX0_foreseen_6 : cX0_foreseen.data.toList.drop 139 = dktX0_foreseen_6 := dk_seg dksX0_foreseen_5 24 rfl rfl
theorem dksX0_foreseen_7 : cX0_foreseen.data.toList.drop 163 = dktX0_foreseen_7 := dk_seg dksX0_foreseen_6 24 rfl rfl
theorem dksX0_foreseen_8 : cX0_foreseen.data.toList.drop 187 = dktX0_foreseen_8 := dk_seg dksX0_foreseen_7 24 rfl rfl
theorem dksX0_foreseen_9 : cX0_foreseen.data.toList.drop 211 = dktX0_foreseen_9 := dk_seg dksX0_foreseen_8 24 rfl rfl
theorem dksX0_foreseen_10 : cX0_foreseen.data.toList.drop 235 = dktX0_foreseen_10 := dk_seg dksX0_foreseen_9 24 rfl rfl
theorem dX0_foreseen_0 : decode cX0_foreseen 0 = .ok (.iload_n 1, 1) := dk_27 (dk_at dksX0_foreseen_0 0 rfl rfl)
theorem dX0_foreseen_1 : decode cX0_foreseen 1 = .ok (.invokestatic 290, 3) := dk_184 1 34 (dk_at dksX0_foreseen_0 1 rfl rfl)
theorem dX0_foreseen_4 : decode cX0_foreseen 4 = .ok (.ifCond .eq 33, 3) := dk_153 0 33 (dk_at dksX0_foreseen_0 4 rfl rfl)
theorem dX0_foreseen_7 : decode cX0_foreseen 7 = .ok (.iload_n 2, 1) := dk_28 (dk_at dksX0_foreseen_0 7 rfl rfl)
theorem dX0_foreseen_8 : decode cX0_foreseen 8 = .ok (.iconst 1, 1) := dk_4 (dk_at dksX0_foreseen_0 8 rfl rfl)
theorem dX0_foreseen_9 : decode cX0_foreseen 9 = .ok (.bipush 8, 2) := dk_16 8 (dk_at dksX0_foreseen_0 9 rfl rfl)
theorem dX0_foreseen_11 : decode cX0_foreseen 11 = .ok (.invokestatic 199, 3) := dk_184 0 199 (dk_at dksX0_foreseen_0 11 rfl rfl)
theorem dX0_foreseen_14 : decode cX0_foreseen 14 = .ok (.ifCond .eq 23, 3) := dk_153 0 23 (dk_at dksX0_foreseen_0 14 rfl rfl)
theorem dX0_foreseen_17 : decode cX0_foreseen 17 = .ok (.aload_n 0, 1) := dk_42 (dk_at dksX0_foreseen_0 17 rfl rfl)
theorem dX0_foreseen_18 : decode cX0_foreseen 18 = .ok (.invokevirtual 265, 3) := dk_182 1 9 (dk_at dksX0_foreseen_0 18 rfl rfl)
theorem dX0_foreseen_21 : decode cX0_foreseen 21 = .ok (.iload_n 2, 1) := dk_28 (dk_at dksX0_foreseen_0 21 rfl rfl)
theorem dX0_foreseen_22 : decode cX0_foreseen 22 = .ok (.iadd, 1) := dk_96 (dk_at dksX0_foreseen_0 22 rfl rfl)
theorem dX0_foreseen_23 : decode cX0_foreseen 23 = .ok (.bipush 40, 2) := dk_16 40 (dk_at dksX0_foreseen_1 0 rfl rfl)
theorem dX0_foreseen_25 : decode cX0_foreseen 25 = .ok (.if_icmp .gt 12, 3) := dk_163 0 12 (dk_at dksX0_foreseen_1 2 rfl rfl)
theorem dX0_foreseen_28 : decode cX0_foreseen 28 = .ok (.iload_n 3, 1) := dk_29 (dk_at dksX0_foreseen_1 5 rfl rfl)
theorem dX0_foreseen_29 : decode cX0_foreseen 29 = .ok (.iconst 0, 1) := dk_3 (dk_at dksX0_foreseen_1 6 rfl rfl)
theorem dX0_foreseen_30 : decode cX0_foreseen 30 = .ok (.iconst 1, 1) := dk_4 (dk_at dksX0_foreseen_1 7 rfl rfl)
theorem dX0_foreseen_31 : decode cX0_foreseen 31 = .ok (.invokestatic 199, 3) := dk_184 0 199 (dk_at dksX0_foreseen_1 8 rfl rfl)
theorem dX0_foreseen_34 : decode cX0_foreseen 34 = .ok (.ifCond .ne 5, 3) := dk_154 0 5 (dk_at dksX0_foreseen_1 11 rfl rfl)
theorem dX0_foreseen_37 : decode cX0_foreseen 37 = .ok (.iconst (-1), 1) := dk_2 (dk_at dksX0_foreseen_1 14 rfl rfl)
theorem dX0_foreseen_38 : decode cX0_foreseen 38 = .ok (.ireturn, 1) := dk_172 (dk_at dksX0_foreseen_1 15 rfl rfl)
theorem dX0_foreseen_39 : decode cX0_foreseen 39 = .ok (.iconst 0, 1) := dk_3 (dk_at dksX0_foreseen_1 16 rfl rfl)
theorem dX0_foreseen_40 : decode cX0_foreseen 40 = .ok (.istore 4, 2) := dk_54 4 (dk_at dksX0_foreseen_1 17 rfl rfl)
theorem dX0_foreseen_42 : decode cX0_foreseen 42 = .ok (.iload 4, 2) := dk_21 4 (dk_at dksX0_foreseen_1 19 rfl rfl)
theorem dX0_foreseen_44 : decode cX0_foreseen 44 = .ok (.aload_n 0, 1) := dk_42 (dk_at dksX0_foreseen_1 21 rfl rfl)
theorem dX0_foreseen_45 : decode cX0_foreseen 45 = .ok (.getfield 196, 3) := dk_180 0 196 (dk_at dksX0_foreseen_2 0 rfl rfl)
theorem dX0_foreseen_48 : decode cX0_foreseen 48 = .ok (.if_icmp .ge 26, 3) := dk_162 0 26 (dk_at dksX0_foreseen_2 3 rfl rfl)
theorem dX0_foreseen_51 : decode cX0_foreseen 51 = .ok (.aload_n 0, 1) := dk_42 (dk_at dksX0_foreseen_2 6 rfl rfl)
theorem dX0_foreseen_52 : decode cX0_foreseen 52 = .ok (.getfield 15, 3) := dk_180 0 15 (dk_at dksX0_foreseen_2 7 rfl rfl)
theorem dX0_foreseen_55 : decode cX0_foreseen 55 = .ok (.iload 4, 2) := dk_21 4 (dk_at dksX0_foreseen_2 10 rfl rfl)
theorem dX0_foreseen_57 : decode cX0_foreseen 57 = .ok (.aaload, 1) := dk_50 (dk_at dksX0_foreseen_2 12 rfl rfl)
theorem dX0_foreseen_58 : decode cX0_foreseen 58 = .ok (.aload_n 0, 1) := dk_42 (dk_at dksX0_foreseen_2 13 rfl rfl)
theorem dX0_foreseen_59 : decode cX0_foreseen 59 = .ok (.getfield 11, 3) := dk_180 0 11 (dk_at dksX0_foreseen_2 14 rfl rfl)
theorem dX0_foreseen_62 : decode cX0_foreseen 62 = .ok (.iload 4, 2) := dk_21 4 (dk_at dksX0_foreseen_2 17 rfl rfl)
theorem dX0_foreseen_64 : decode cX0_foreseen 64 = .ok (.aaload, 1) := dk_50 (dk_at dksX0_foreseen_2 19 rfl rfl)
theorem dX0_foreseen_65 : decode cX0_foreseen 65 = .ok (.invokevirtual 498, 3) := dk_182 1 242 (dk_at dksX0_foreseen_2 20 rfl rfl)
theorem dX0_foreseen_68 : decode cX0_foreseen 68 = .ok (.iinc 4 1, 3) := dk_132 4 1 (dk_at dksX0_foreseen_3 0 rfl rfl)
theorem dX0_foreseen_71 : decode cX0_foreseen 71 = .ok (.goto (-29), 3) := dk_167 255 227 (dk_at dksX0_foreseen_3 3 rfl rfl)
theorem dX0_foreseen_74 : decode cX0_foreseen 74 = .ok (.aload_n 0, 1) := dk_42 (dk_at dksX0_foreseen_3 6 rfl rfl)
theorem dX0_foreseen_75 : decode cX0_foreseen 75 = .ok (.getfield 193, 3) := dk_180 0 193 (dk_at dksX0_foreseen_3 7 rfl rfl)
theorem dX0_foreseen_78 : decode cX0_foreseen 78 = .ok (.istore 4, 2) := dk_54 4 (dk_at dksX0_foreseen_3 10 rfl rfl)
theorem dX0_foreseen_80 : decode cX0_foreseen 80 = .ok (.iconst 0, 1) := dk_3 (dk_at dksX0_foreseen_3 12 rfl rfl)
theorem dX0_foreseen_81 : decode cX0_foreseen 81 = .ok (.istore 5, 2) := dk_54 5 (dk_at dksX0_foreseen_3 13 rfl rfl)
theorem dX0_foreseen_83 : decode cX0_foreseen 83 = .ok (.iconst 0, 1) := dk_3 (dk_at dksX0_foreseen_3 15 rfl rfl)
theorem dX0_foreseen_84 : decode cX0_foreseen 84 = .ok (.istore 6, 2) := dk_54 6 (dk_at dksX0_foreseen_3 16 rfl rfl)
theorem dX0_foreseen_86 : decode cX0_foreseen 86 = .ok (.iload 6, 2) := dk_21 6 (dk_at dksX0_foreseen_3 18 rfl rfl)
theorem dX0_foreseen_88 : decode cX0_foreseen 88 = .ok (.iload_n 2, 1) := dk_28 (dk_at dksX0_foreseen_3 20 rfl rfl)
theorem dX0_foreseen_89 : decode cX0_foreseen 89 = .ok (.if_icmp .ge 145, 3) := dk_162 0 145 (dk_at dksX0_foreseen_3 21 rfl rfl)
theorem dX0_foreseen_92 : decode cX0_foreseen 92 = .ok (.iload 4, 2) := dk_21 4 (dk_at dksX0_foreseen_4 0 rfl rfl)
theorem dX0_foreseen_94 : decode cX0_foreseen 94 = .ok (.bipush 60, 2) := dk_16 60 (dk_at dksX0_foreseen_4 2 rfl rfl)
theorem dX0_foreseen_96 : decode cX0_foreseen 96 = .ok (.irem, 1) := dk_112 (dk_at dksX0_foreseen_4 4 rfl rfl)
theorem dX0_foreseen_97 : decode cX0_foreseen 97 = .ok (.bipush 59, 2) := dk_16 59 (dk_at dksX0_foreseen_4 5 rfl rfl)
theorem dX0_foreseen_99 : decode cX0_foreseen 99 = .ok (.if_icmp .ge 19, 3) := dk_162 0 19 (dk_at dksX0_foreseen_4 7 rfl rfl)
theorem dX0_foreseen_102 : decode cX0_foreseen 102 = .ok (.aload_n 0, 1) := dk_42 (dk_at dksX0_foreseen_4 10 rfl rfl)
theorem dX0_foreseen_103 : decode cX0_foreseen 103 = .ok (.aload_n 0, 1) := dk_42 (dk_at dksX0_foreseen_4 11 rfl rfl)
theorem dX0_foreseen_104 : decode cX0_foreseen 104 = .ok (.getfield 15, 3) := dk_180 0 15 (dk_at dksX0_foreseen_4 12 rfl rfl)
theorem dX0_foreseen_107 : decode cX0_foreseen 107 = .ok (.iload 4, 2) := dk_21 4 (dk_at dksX0_foreseen_4 15 rfl rfl)
theorem dX0_foreseen_109 : decode cX0_foreseen 109 = .ok (.invokevirtual 256, 3) := dk_182 1 0 (dk_at dksX0_foreseen_4 17 rfl rfl)
theorem dX0_foreseen_112 : decode cX0_foreseen 112 = .ok (.iinc 4 1, 3) := dk_132 4 1 (dk_at dksX0_foreseen_4 20 rfl rfl)
theorem dX0_foreseen_115 : decode cX0_foreseen 115 = .ok (.goto (-23), 3) := dk_167 255 233 (dk_at dksX0_foreseen_5 0 rfl rfl)
theorem dX0_foreseen_118 : decode cX0_foreseen 118 = .ok (.iconst 0, 1) := dk_3 (dk_at dksX0_foreseen_5 3 rfl rfl)
theorem dX0_foreseen_119 : decode cX0_foreseen 119 = .ok (.istore 7, 2) := dk_54 7 (dk_at dksX0_foreseen_5 4 rfl rfl)
theorem dX0_foreseen_121 : decode cX0_foreseen 121 = .ok (.iload 7, 2) := dk_21 7 (dk_at dksX0_foreseen_5 6 rfl rfl)
theorem dX0_foreseen_123 : decode cX0_foreseen 123 = .ok (.aload_n 0, 1) := dk_42 (dk_at dksX0_foreseen_5 8 rfl rfl)
theorem dX0_foreseen_124 : decode cX0_foreseen 124 = .ok (.getfield 196, 3) := dk_180 0 196 (dk_at dksX0_foreseen_5 9 rfl rfl)
theorem dX0_foreseen_127 : decode cX0_foreseen 127 = .ok (.if_icmp .ge 90, 3) := dk_162 0 90 (dk_at dksX0_foreseen_5 12 rfl rfl)
theorem dX0_foreseen_130 : decode cX0_foreseen 130 = .ok (.aload_n 0, 1) := dk_42 (dk_at dksX0_foreseen_5 15 rfl rfl)
theorem dX0_foreseen_131 : decode cX0_foreseen 131 = .ok (.getfield 15, 3) := dk_180 0 15 (dk_at dksX0_foreseen_5 16 rfl rfl)
theorem dX0_foreseen_134 : decode cX0_foreseen 134 = .ok (.iload 7, 2) := dk_21 7 (dk_at dksX0_foreseen_5 19 rfl rfl)
theorem dX0_foreseen_136 : decode cX0_foreseen 136 = .ok (.aaload, 1) := dk_50 (dk_at dksX0_foreseen_5 21 rfl rfl)
theorem dX0_foreseen_137 : decode cX0_foreseen 137 = .ok (.astore 8, 2) := dk_58 8 (dk_at dksX0_foreseen_5 22 rfl rfl)
theorem dX0_foreseen_139 : decode cX0_foreseen 139 = .ok (.aload_n 0, 1) := dk_42 (dk_at dksX0_foreseen_6 0 rfl rfl)
theorem dX0_foreseen_140 : decode cX0_foreseen 140 = .ok (.iload_n 1, 1) := dk_27 (dk_at dksX0_foreseen_6 1 rfl rfl)
theorem dX0_foreseen_141 : decode cX0_foreseen 141 = .ok (.aload 8, 2) := dk_25 8 (dk_at dksX0_foreseen_6 2 rfl rfl)
theorem dX0_foreseen_143 : decode cX0_foreseen 143 = .ok (.iload 4, 2) := dk_21 4 (dk_at dksX0_foreseen_6 4 rfl rfl)
theorem dX0_foreseen_145 : decode cX0_foreseen 145 = .ok (.iconst 0, 1) := dk_3 (dk_at dksX0_foreseen_6 6 rfl rfl)
theorem dX0_foreseen_146 : decode cX0_foreseen 146 = .ok (.invokevirtual 336, 3) := dk_182 1 80 (dk_at dksX0_foreseen_6 7 rfl rfl)
theorem dX0_foreseen_149 : decode cX0_foreseen 149 = .ok (.astore 9, 2) := dk_58 9 (dk_at dksX0_foreseen_6 10 rfl rfl)
theorem dX0_foreseen_151 : decode cX0_foreseen 151 = .ok (.aload 8, 2) := dk_25 8 (dk_at dksX0_foreseen_6 12 rfl rfl)
theorem dX0_foreseen_153 : decode cX0_foreseen 153 = .ok (.getfield 220, 3) := dk_180 0 220 (dk_at dksX0_foreseen_6 14 rfl rfl)
theorem dX0_foreseen_156 : decode cX0_foreseen 156 = .ok (.aload 8, 2) := dk_25 8 (dk_at dksX0_foreseen_6 17 rfl rfl)
theorem dX0_foreseen_158 : decode cX0_foreseen 158 = .ok (.aload 9, 2) := dk_25 9 (dk_at dksX0_foreseen_6 19 rfl rfl)
theorem dX0_foreseen_160 : decode cX0_foreseen 160 = .ok (.invokestatic 340, 3) := dk_184 1 84 (dk_at dksX0_foreseen_6 21 rfl rfl)
theorem dX0_foreseen_163 : decode cX0_foreseen 163 = .ok (.isub, 1) := dk_100 (dk_at dksX0_foreseen_7 0 rfl rfl)
theorem dX0_foreseen_164 : decode cX0_foreseen 164 = .ok (.istore 10, 2) := dk_54 10 (dk_at dksX0_foreseen_7 1 rfl rfl)
theorem dX0_foreseen_166 : decode cX0_foreseen 166 = .ok (.aload 9, 2) := dk_25 9 (dk_at dksX0_foreseen_7 3 rfl rfl)
theorem dX0_foreseen_168 : decode cX0_foreseen 168 = .ok (.getfield 329, 3) := dk_180 1 73 (dk_at dksX0_foreseen_7 5 rfl rfl)
theorem dX0_foreseen_171 : decode cX0_foreseen 171 = .ok (.ifCond .ne 40, 3) := dk_154 0 40 (dk_at dksX0_foreseen_7 8 rfl rfl)
theorem dX0_foreseen_174 : decode cX0_foreseen 174 = .ok (.aload 8, 2) := dk_25 8 (dk_at dksX0_foreseen_7 11 rfl rfl)
theorem dX0_foreseen_176 : decode cX0_foreseen 176 = .ok (.getfield 226, 3) := dk_180 0 226 (dk_at dksX0_foreseen_7 13 rfl rfl)
theorem dX0_foreseen_179 : decode cX0_foreseen 179 = .ok (.ifCond .ne 32, 3) := dk_154 0 32 (dk_at dksX0_foreseen_7 16 rfl rfl)
theorem dX0_foreseen_182 : decode cX0_foreseen 182 = .ok (.iload 10, 2) := dk_21 10 (dk_at dksX0_foreseen_7 19 rfl rfl)
theorem dX0_foreseen_184 : decode cX0_foreseen 184 = .ok (.ifCond .gt 6, 3) := dk_157 0 6 (dk_at dksX0_foreseen_7 21 rfl rfl)
theorem dX0_foreseen_187 : decode cX0_foreseen 187 = .ok (.goto 24, 3) := dk_167 0 24 (dk_at dksX0_foreseen_8 0 rfl rfl)
theorem dX0_foreseen_190 : decode cX0_foreseen 190 = .ok (.iload 5, 2) := dk_21 5 (dk_at dksX0_foreseen_8 3 rfl rfl)
theorem dX0_foreseen_192 : decode cX0_foreseen 192 = .ok (.iload 10, 2) := dk_21 10 (dk_at dksX0_foreseen_8 5 rfl rfl)
theorem dX0_foreseen_194 : decode cX0_foreseen 194 = .ok (.iadd, 1) := dk_96 (dk_at dksX0_foreseen_8 7 rfl rfl)
theorem dX0_foreseen_195 : decode cX0_foreseen 195 = .ok (.istore 5, 2) := dk_54 5 (dk_at dksX0_foreseen_8 8 rfl rfl)
theorem dX0_foreseen_197 : decode cX0_foreseen 197 = .ok (.aload 8, 2) := dk_25 8 (dk_at dksX0_foreseen_8 10 rfl rfl)
theorem dX0_foreseen_199 : decode cX0_foreseen 199 = .ok (.aload 8, 2) := dk_25 8 (dk_at dksX0_foreseen_8 12 rfl rfl)
theorem dX0_foreseen_201 : decode cX0_foreseen 201 = .ok (.getfield 220, 3) := dk_180 0 220 (dk_at dksX0_foreseen_8 14 rfl rfl)
theorem dX0_foreseen_204 : decode cX0_foreseen 204 = .ok (.iload 10, 2) := dk_21 10 (dk_at dksX0_foreseen_8 17 rfl rfl)
theorem dX0_foreseen_206 : decode cX0_foreseen 206 = .ok (.isub, 1) := dk_100 (dk_at dksX0_foreseen_8 19 rfl rfl)
theorem dX0_foreseen_207 : decode cX0_foreseen 207 = .ok (.invokevirtual 418, 3) := dk_182 1 162 (dk_at dksX0_foreseen_8 20 rfl rfl)
theorem dX0_foreseen_210 : decode cX0_foreseen 210 = .ok (.pop2, 1) := dk_88 (dk_at dksX0_foreseen_8 23 rfl rfl)
theorem dX0_foreseen_211 : decode cX0_foreseen 211 = .ok (.iinc 7 1, 3) := dk_132 7 1 (dk_at dksX0_foreseen_9 0 rfl rfl)
theorem dX0_foreseen_214 : decode cX0_foreseen 214 = .ok (.goto (-93), 3) := dk_167 255 163 (dk_at dksX0_foreseen_9 3 rfl rfl)
theorem dX0_foreseen_217 : decode cX0_foreseen 217 = .ok (.iinc 4 1, 3) := dk_132 4 1 (dk_at dksX0_foreseen_9 6 rfl rfl)
theorem dX0_foreseen_220 : decode cX0_foreseen 220 = .ok (.aload_n 0, 1) := dk_42 (dk_at dksX0_foreseen_9 9 rfl rfl)
theorem dX0_foreseen_221 : decode cX0_foreseen 221 = .ok (.aload_n 0, 1) := dk_42 (dk_at dksX0_foreseen_9 10 rfl rfl)
theorem dX0_foreseen_222 : decode cX0_foreseen 222 = .ok (.getfield 15, 3) := dk_180 0 15 (dk_at dksX0_foreseen_9 11 rfl rfl)
theorem dX0_foreseen_225 : decode cX0_foreseen 225 = .ok (.invokevirtual 260, 3) := dk_182 1 4 (dk_at dksX0_foreseen_9 14 rfl rfl)
theorem dX0_foreseen_228 : decode cX0_foreseen 228 = .ok (.iinc 6 1, 3) := dk_132 6 1 (dk_at dksX0_foreseen_9 17 rfl rfl)
theorem dX0_foreseen_231 : decode cX0_foreseen 231 = .ok (.goto (-145), 3) := dk_167 255 111 (dk_at dksX0_foreseen_9 20 rfl rfl)
theorem dX0_foreseen_234 : decode cX0_foreseen 234 = .ok (.iload_n 3, 1) := dk_29 (dk_at dksX0_foreseen_9 23 rfl rfl)
theorem dX0_foreseen_235 : decode cX0_foreseen 235 = .ok (.ifCond .ne 8, 3) := dk_154 0 8 (dk_at dksX0_foreseen_10 0 rfl rfl)
theorem dX0_foreseen_238 : decode cX0_foreseen 238 = .ok (.iload 5, 2) := dk_21 5 (dk_at dksX0_foreseen_10 3 rfl rfl)
theorem dX0_foreseen_240 : decode cX0_foreseen 240 = .ok (.goto 11, 3) := dk_167 0 11 (dk_at dksX0_foreseen_10 5 rfl rfl)
theorem dX0_foreseen_243 : decode cX0_foreseen 243 = .ok (.aload_n 0, 1) := dk_42 (dk_at dksX0_foreseen_10 8 rfl rfl)
theorem dX0_foreseen_244 : decode cX0_foreseen 244 = .ok (.aload_n 0, 1) := dk_42 (dk_at dksX0_foreseen_10 9 rfl rfl)
theorem dX0_foreseen_245 : decode cX0_foreseen 245 = .ok (.getfield 15, 3) := dk_180 0 15 (dk_at dksX0_foreseen_10 10 rfl rfl)
theorem dX0_foreseen_248 : decode cX0_foreseen 248 = .ok (.invokevirtual 280, 3) := dk_182 1 24 (dk_at dksX0_foreseen_10 13 rfl rfl)
theorem dX0_foreseen_251 : decode cX0_foreseen 251 = .ok (.ireturn, 1) := dk_172 (dk_at dksX0_foreseen_10 16 rfl rfl)
theorem q98 : (Jvm.Cond.initialized "CliffHoney") ∈ lw_all := lw_g (lw_at lw_m1 1 rfl) rfl
theorem q134 : (Jvm.Cond.instantiable "CliffHoney" (51 : Nat)) ∈ lw_all := lw_g (lw_at lw_m1 37 rfl) rfl
theorem q136 : (Jvm.Cond.instanceMethod ({ cls := "CliffHoney", name := "<init>", desc := "()V" } : Jvm.MethodName)) ∈ lw_all := lw_g (lw_at lw_m1 39 rfl) rfl
theorem q137 : (Jvm.Cond.code ({ cls := "CliffHoney", name := "<init>", desc := "()V" } : Jvm.MethodName) prog_1_method_1_code (1 : Nat) (Option.none : Option Jvm.ClassFile.FieldType)) ∈ lw_all := lw_g (lw_at lw_m1 40 rfl) rfl
theorem q138 : (Jvm.Cond.methodLink "CliffHoney" (3 : Nat) ({ cls := "java/lang/Object", name := "<init>", desc := "()V" } : Jvm.MethodName)) ∈ lw_all := lw_g (lw_at lw_m1 41 rfl) rfl
theorem q141 : (Jvm.Cond.classLink "CliffHoney" (9 : Nat) "CliffHoney$Ledge") ∈ lw_all := lw_g (lw_at lw_m1 44 rfl) rfl
theorem q143 : (Jvm.Cond.classLink "CliffHoney" (39 : Nat) "CliffHoney$Fault") ∈ lw_all := lw_g (lw_at lw_m1 46 rfl) rfl
theorem q180 : (Jvm.Cond.methodLink "CliffHoney" (41 : Nat) ({ cls := "CliffHoney$Fault", name := "<init>", desc := "()V" } : Jvm.MethodName)) ∈ lw_all := lw_g (lw_at lw_m1 83 rfl) rfl
theorem q189 : (Jvm.Cond.fieldLink "CliffHoney" (284 : Nat) "CliffHoney$Fault" "kind" "I") ∈ lw_all := lw_g (lw_at lw_m1 92 rfl) rfl
theorem q190 : (Jvm.Cond.fieldLink "CliffHoney" (287 : Nat) "CliffHoney$Fault" "place" "I") ∈ lw_all := lw_g (lw_at lw_m1 93 rfl) rfl
theorem q210 : (Jvm.Cond.classLink "CliffHoney" (46 : Nat) "java/lang/String") ∈ lw_all := lw_g (lw_at lw_m1 113 rfl) rfl
theorem q212 : (Jvm.Cond.stringRef "CliffHoney" (48 : Nat) "day") ∈ lw_tbl := lw_at lw_m1 115 rfl
theorem q213 : (Jvm.Cond.stringRef "CliffHoney" (50 : Nat) "month") ∈ lw_tbl := lw_at lw_m1 116 rfl
theorem q214 : (Jvm.Cond.stringRef "CliffHoney" (52 : Nat) "moon") ∈ lw_tbl := lw_at lw_m1 117 rfl
theorem q215 : (Jvm.Cond.stringRef "CliffHoney" (54 : Nat) "wind") ∈ lw_tbl := lw_at lw_m1 118 rfl
theorem q216 : (Jvm.Cond.stringRef "CliffHoney" (56 : Nat) "height") ∈ lw_tbl := lw_at lw_m1 119 rfl
theorem q217 : (Jvm.Cond.stringRef "CliffHoney" (58 : Nat) "strength") ∈ lw_tbl := lw_at lw_m1 120 rfl
theorem q218 : (Jvm.Cond.stringRef "CliffHoney" (60 : Nat) "comb") ∈ lw_tbl := lw_at lw_m1 121 rfl
theorem q219 : (Jvm.Cond.stringRef "CliffHoney" (62 : Nat) "season") ∈ lw_tbl := lw_at lw_m1 122 rfl
theorem q220 : (Jvm.Cond.stringRef "CliffHoney" (64 : Nat) "cutter") ∈ lw_tbl := lw_at lw_m1 123 rfl
theorem q221 : (Jvm.Cond.stringRef "CliffHoney" (66 : Nat) "rope") ∈ lw_tbl := lw_at lw_m1 124 rfl
theorem q222 : (Jvm.Cond.stringRef "CliffHoney" (68 : Nat) "finder") ∈ lw_tbl := lw_at lw_m1 125 rfl
theorem q223 : (Jvm.Cond.stringRef "CliffHoney" (70 : Nat) "land") ∈ lw_tbl := lw_at lw_m1 126 rfl
theorem q224 : (Jvm.Cond.stringRef "CliffHoney" (72 : Nat) "leave") ∈ lw_tbl := lw_at lw_m1 127 rfl
theorem q225 : (Jvm.Cond.stringRef "CliffHoney" (74 : Nat) "bar") ∈ lw_tbl := lw_at lw_m1 128 rfl
theorem q226 : (Jvm.Cond.stringRef "CliffHoney" (76 : Nat) "share") ∈ lw_tbl := lw_at lw_m1 129 rfl
theorem q227 : (Jvm.Cond.stringRef "CliffHoney" (78 : Nat) "learn") ∈ lw_tbl := lw_at lw_m1 130 rfl
theorem q228 : (Jvm.Cond.stringRef "CliffHoney" (80 : Nat) "old") ∈ lw_tbl := lw_at lw_m1 131 rfl
theorem q229 : (Jvm.Cond.stringRef "CliffHoney" (82 : Nat) "when") ∈ lw_tbl := lw_at lw_m1 132 rfl
theorem q230 : (Jvm.Cond.stringRef "CliffHoney" (84 : Nat) "or") ∈ lw_tbl := lw_at lw_m1 133 rfl
theorem q231 : (Jvm.Cond.stringRef "CliffHoney" (86 : Nat) "and") ∈ lw_tbl := lw_at lw_m1 134 rfl
theorem q232 : (Jvm.Cond.stringRef "CliffHoney" (88 : Nat) "not") ∈ lw_tbl := lw_at lw_m1 135 rfl
theorem q233 : (Jvm.Cond.classLink "CliffHoney" (94 : Nat) "CliffHoney$Reader") ∈ lw_all := lw_g (lw_at lw_m1 136 rfl) rfl
theorem q235 : (Jvm.Cond.methodLinkNest "CliffHoney" (96 : Nat) ({ cls := "CliffHoney$Reader", name := "<init>", desc := "(LCliffHoney;)V" } : Jvm.MethodName) "CliffHoney") ∈ lw_tbl := lw_at lw_m1 138 rfl
theorem q245 : (Jvm.Cond.fieldLinkNest "CliffHoney" (303 : Nat) "CliffHoney$Reader" "told" "I" "CliffHoney") ∈ lw_tbl := lw_at lw_m1 148 rfl
theorem q247 : (Jvm.Cond.fieldLinkNest "CliffHoney" (299 : Nat) "CliffHoney$Reader" "row" "[LCliffHoney$Line;" "CliffHoney") ∈ lw_tbl := lw_at lw_m1 150 rfl
theorem q266 : (Jvm.Cond.classLink "CliffHoney" (103 : Nat) "[[LCliffHoney$Line;") ∈ lw_all := lw_g (lw_at lw_m1 169 rfl) rfl
theorem q270 : (Jvm.Cond.classLink "CliffHoney" (114 : Nat) "CliffHoney$Custom") ∈ lw_all := lw_g (lw_at lw_m1 173 rfl) rfl
theorem q273 : (Jvm.Cond.methodLinkNest "CliffHoney" (116 : Nat) ({ cls := "CliffHoney$Custom", name := "<init>", desc := "()V" } : Jvm.MethodName) "CliffHoney") ∈ lw_tbl := lw_at lw_m1 176 rfl
theorem q280 : (Jvm.Cond.fieldLink "CliffHoney" (323 : Nat) "CliffHoney$Custom" "shares" "[I") ∈ lw_all := lw_g (lw_at lw_m1 183 rfl) rfl
theorem q282 : (Jvm.Cond.fieldLink "CliffHoney" (319 : Nat) "CliffHoney$Custom" "learn" "I") ∈ lw_all := lw_g (lw_at lw_m1 185 rfl) rfl
theorem q285 : (Jvm.Cond.fieldLink "CliffHoney" (321 : Nat) "CliffHoney$Custom" "old" "I") ∈ lw_all := lw_g (lw_at lw_m1 188 rfl) rfl
theorem q287 : (Jvm.Cond.fieldLink "CliffHoney" (326 : Nat) "CliffHoney$Custom" "leaves" "I") ∈ lw_all := lw_g (lw_at lw_m1 190 rfl) rfl
theorem q289 : (Jvm.Cond.fieldLink "CliffHoney" (329 : Nat) "CliffHoney$Custom" "isBarred" "Z") ∈ lw_all := lw_g (lw_at lw_m1 192 rfl) rfl
theorem q301 : (Jvm.Cond.classLink "CliffHoney" (136 : Nat) "CliffHoney$Person") ∈ lw_all := lw_g (lw_at lw_m1 204 rfl) rfl
theorem q303 : (Jvm.Cond.classLink "CliffHoney" (148 : Nat) "CliffHoney$Lot") ∈ lw_all := lw_g (lw_at lw_m1 206 rfl) rfl
theorem q305 : (Jvm.Cond.classLink "CliffHoney" (154 : Nat) "CliffHoney$Buyer") ∈ lw_all := lw_g (lw_at lw_m1 208 rfl) rfl
theorem q307 : (Jvm.Cond.fieldLink "CliffHoney" (11 : Nat) "CliffHoney" "ledges" "[LCliffHoney$Ledge;") ∈ lw_all := lw_g (lw_at lw_m1 210 rfl) rfl
theorem q309 : (Jvm.Cond.fieldLink "CliffHoney" (15 : Nat) "CliffHoney" "trial" "[LCliffHoney$Ledge;") ∈ lw_all := lw_g (lw_at lw_m1 212 rfl) rfl
theorem q310 : (Jvm.Cond.fieldLink "CliffHoney" (18 : Nat) "CliffHoney" "gives" "[I") ∈ lw_all := lw_g (lw_at lw_m1 213 rfl) rfl
theorem q311 : (Jvm.Cond.fieldLink "CliffHoney" (22 : Nat) "CliffHoney" "mads" "[I") ∈ lw_all := lw_g (lw_at lw_m1 214 rfl) rfl
theorem q313 : (Jvm.Cond.fieldLink "CliffHoney" (196 : Nat) "CliffHoney" "many" "I") ∈ lw_all := lw_g (lw_at lw_m1 216 rfl) rfl
theorem q314 : (Jvm.Cond.fieldLink "CliffHoney" (193 : Nat) "CliffHoney" "date" "I") ∈ lw_all := lw_g (lw_at lw_m1 217 rfl) rfl
theorem q315 : (Jvm.Cond.fieldLink "CliffHoney" (263 : Nat) "CliffHoney" "wind" "I") ∈ lw_all := lw_g (lw_at lw_m1 218 rfl) rfl
theorem q316 : (Jvm.Cond.fieldLink "CliffHoney" (25 : Nat) "CliffHoney" "sun" "I") ∈ lw_all := lw_g (lw_at lw_m1 219 rfl) rfl
theorem q317 : (Jvm.Cond.fieldLink "CliffHoney" (29 : Nat) "CliffHoney" "stings" "I") ∈ lw_all := lw_g (lw_at lw_m1 220 rfl) rfl
theorem q318 : (Jvm.Cond.fieldLink "CliffHoney" (32 : Nat) "CliffHoney" "tape" "[B") ∈ lw_all := lw_g (lw_at lw_m1 221 rfl) rfl
theorem q321 : (Jvm.Cond.fieldLink "CliffHoney" (293 : Nat) "CliffHoney" "taped" "I") ∈ lw_all := lw_g (lw_at lw_m1 224 rfl) rfl
theorem q322 : (Jvm.Cond.fieldLink "CliffHoney" (312 : Nat) "CliffHoney" "faultKind" "I") ∈ lw_all := lw_g (lw_at lw_m1 225 rfl) rfl
theorem q323 : (Jvm.Cond.fieldLink "CliffHoney" (36 : Nat) "CliffHoney" "faultPlace" "I") ∈ lw_all := lw_g (lw_at lw_m1 226 rfl) rfl
theorem q324 : (Jvm.Cond.fieldLink "CliffHoney" (42 : Nat) "CliffHoney" "refusal" "LCliffHoney$Fault;") ∈ lw_all := lw_g (lw_at lw_m1 227 rfl) rfl
theorem q325 : (Jvm.Cond.fieldLink "CliffHoney" (90 : Nat) "CliffHoney" "words" "[Ljava/lang/String;") ∈ lw_all := lw_g (lw_at lw_m1 228 rfl) rfl
theorem q327 : (Jvm.Cond.fieldLink "CliffHoney" (99 : Nat) "CliffHoney" "reader" "LCliffHoney$Reader;") ∈ lw_all := lw_g (lw_at lw_m1 230 rfl) rfl
theorem q328 : (Jvm.Cond.fieldLink "CliffHoney" (105 : Nat) "CliffHoney" "lines" "[[LCliffHoney$Line;") ∈ lw_all := lw_g (lw_at lw_m1 231 rfl) rfl
theorem q329 : (Jvm.Cond.fieldLink "CliffHoney" (108 : Nat) "CliffHoney" "lineMany" "[I") ∈ lw_all := lw_g (lw_at lw_m1 232 rfl) rfl
theorem q330 : (Jvm.Cond.fieldLink "CliffHoney" (111 : Nat) "CliffHoney" "has" "[I") ∈ lw_all := lw_g (lw_at lw_m1 233 rfl) rfl
theorem q331 : (Jvm.Cond.fieldLink "CliffHoney" (117 : Nat) "CliffHoney" "customs" "[LCliffHoney$Custom;") ∈ lw_all := lw_g (lw_at lw_m1 234 rfl) rfl
theorem q333 : (Jvm.Cond.fieldLink "CliffHoney" (121 : Nat) "CliffHoney" "longs" "[I") ∈ lw_all := lw_g (lw_at lw_m1 236 rfl) rfl
theorem q334 : (Jvm.Cond.fieldLink "CliffHoney" (124 : Nat) "CliffHoney" "madeIn" "[I") ∈ lw_all := lw_g (lw_at lw_m1 237 rfl) rfl
theorem q335 : (Jvm.Cond.fieldLink "CliffHoney" (344 : Nat) "CliffHoney" "ladderMany" "I") ∈ lw_all := lw_g (lw_at lw_m1 238 rfl) rfl
theorem q336 : (Jvm.Cond.fieldLink "CliffHoney" (127 : Nat) "CliffHoney" "cuts" "[I") ∈ lw_all := lw_g (lw_at lw_m1 239 rfl) rfl
theorem q337 : (Jvm.Cond.fieldLink "CliffHoney" (130 : Nat) "CliffHoney" "trying" "[I") ∈ lw_all := lw_g (lw_at lw_m2 0 rfl) rfl
theorem q338 : (Jvm.Cond.fieldLink "CliffHoney" (133 : Nat) "CliffHoney" "best" "[I") ∈ lw_all := lw_g (lw_at lw_m2 1 rfl) rfl
theorem q339 : (Jvm.Cond.fieldLink "CliffHoney" (375 : Nat) "CliffHoney" "bestMany" "I") ∈ lw_all := lw_g (lw_at lw_m2 2 rfl) rfl
theorem q340 : (Jvm.Cond.fieldLink "CliffHoney" (369 : Nat) "CliffHoney" "bestUnits" "I") ∈ lw_all := lw_g (lw_at lw_m2 3 rfl) rfl
theorem q341 : (Jvm.Cond.fieldLink "CliffHoney" (372 : Nat) "CliffHoney" "bestMinutes" "I") ∈ lw_all := lw_g (lw_at lw_m2 4 rfl) rfl
theorem q342 : (Jvm.Cond.fieldLink "CliffHoney" (378 : Nat) "CliffHoney" "bestStings" "I") ∈ lw_all := lw_g (lw_at lw_m2 5 rfl) rfl
theorem q343 : (Jvm.Cond.fieldLink "CliffHoney" (138 : Nat) "CliffHoney" "people" "[LCliffHoney$Person;") ∈ lw_all := lw_g (lw_at lw_m2 6 rfl) rfl
theorem q345 : (Jvm.Cond.fieldLink "CliffHoney" (203 : Nat) "CliffHoney" "peopleMany" "I") ∈ lw_all := lw_g (lw_at lw_m2 8 rfl) rfl
theorem q346 : (Jvm.Cond.fieldLink "CliffHoney" (142 : Nat) "CliffHoney" "right" "I") ∈ lw_all := lw_g (lw_at lw_m2 9 rfl) rfl
theorem q347 : (Jvm.Cond.fieldLink "CliffHoney" (145 : Nat) "CliffHoney" "villageMoney" "[I") ∈ lw_all := lw_g (lw_at lw_m2 10 rfl) rfl
theorem q350 : (Jvm.Cond.fieldLink "CliffHoney" (274 : Nat) "CliffHoney" "temple" "I") ∈ lw_all := lw_g (lw_at lw_m2 13 rfl) rfl
theorem q351 : (Jvm.Cond.fieldLink "CliffHoney" (277 : Nat) "CliffHoney" "everCut" "I") ∈ lw_all := lw_g (lw_at lw_m2 14 rfl) rfl
theorem q352 : (Jvm.Cond.fieldLink "CliffHoney" (150 : Nat) "CliffHoney" "lots" "[LCliffHoney$Lot;") ∈ lw_all := lw_g (lw_at lw_m2 15 rfl) rfl
theorem q353 : (Jvm.Cond.fieldLink "CliffHoney" (268 : Nat) "CliffHoney" "lotMany" "I") ∈ lw_all := lw_g (lw_at lw_m2 16 rfl) rfl
theorem q354 : (Jvm.Cond.fieldLink "CliffHoney" (156 : Nat) "CliffHoney" "buyers" "[LCliffHoney$Buyer;") ∈ lw_all := lw_g (lw_at lw_m2 17 rfl) rfl
theorem q355 : (Jvm.Cond.fieldLink "CliffHoney" (160 : Nat) "CliffHoney" "offered" "[I") ∈ lw_all := lw_g (lw_at lw_m2 18 rfl) rfl
theorem q356 : (Jvm.Cond.fieldLink "CliffHoney" (163 : Nat) "CliffHoney" "to" "[I") ∈ lw_all := lw_g (lw_at lw_m2 19 rfl) rfl
theorem q357 : (Jvm.Cond.fieldLink "CliffHoney" (166 : Nat) "CliffHoney" "bestTo" "[I") ∈ lw_all := lw_g (lw_at lw_m2 20 rfl) rfl
theorem q358 : (Jvm.Cond.fieldLink "CliffHoney" (458 : Nat) "CliffHoney" "buyerMany" "I") ∈ lw_all := lw_g (lw_at lw_m2 21 rfl) rfl
theorem q359 : (Jvm.Cond.fieldLink "CliffHoney" (462 : Nat) "CliffHoney" "offeredMany" "I") ∈ lw_all := lw_g (lw_at lw_m2 22 rfl) rfl
theorem q360 : (Jvm.Cond.fieldLink "CliffHoney" (465 : Nat) "CliffHoney" "bestMoney" "I") ∈ lw_all := lw_g (lw_at lw_m2 23 rfl) rfl
theorem q361 : (Jvm.Cond.fieldLink "CliffHoney" (468 : Nat) "CliffHoney" "bestSold" "I") ∈ lw_all := lw_g (lw_at lw_m2 24 rfl) rfl
theorem q362 : (Jvm.Cond.fieldLink "CliffHoney" (169 : Nat) "CliffHoney" "claimLedge" "[I") ∈ lw_all := lw_g (lw_at lw_m2 25 rfl) rfl
theorem q363 : (Jvm.Cond.fieldLink "CliffHoney" (172 : Nat) "CliffHoney" "claimVillage" "[I") ∈ lw_all := lw_g (lw_at lw_m2 26 rfl) rfl
theorem q364 : (Jvm.Cond.fieldLink "CliffHoney" (175 : Nat) "CliffHoney" "claimSeason" "[I") ∈ lw_all := lw_g (lw_at lw_m2 27 rfl) rfl
theorem q365 : (Jvm.Cond.fieldLink "CliffHoney" (178 : Nat) "CliffHoney" "claimDate" "[I") ∈ lw_all := lw_g (lw_at lw_m2 28 rfl) rfl
theorem q366 : (Jvm.Cond.fieldLink "CliffHoney" (490 : Nat) "CliffHoney" "claimMany" "I") ∈ lw_all := lw_g (lw_at lw_m2 29 rfl) rfl
theorem q367 : (Jvm.Cond.laysFinal "CliffHoney" "CliffHoney" "ledges" "[LCliffHoney$Ledge;") ∈ lw_all := lw_g (lw_at lw_m2 30 rfl) rfl
theorem q368 : (Jvm.Cond.soleField "CliffHoney" "ledges") ∈ lw_all := lw_g (lw_at lw_m2 31 rfl) rfl
theorem q369 : (Jvm.Cond.laysFinal "CliffHoney" "CliffHoney" "trial" "[LCliffHoney$Ledge;") ∈ lw_all := lw_g (lw_at lw_m2 32 rfl) rfl
theorem q370 : (Jvm.Cond.soleField "CliffHoney" "trial") ∈ lw_all := lw_g (lw_at lw_m2 33 rfl) rfl
theorem q371 : (Jvm.Cond.laysFinal "CliffHoney" "CliffHoney" "gives" "[I") ∈ lw_all := lw_g (lw_at lw_m2 34 rfl) rfl
theorem q372 : (Jvm.Cond.soleField "CliffHoney" "gives") ∈ lw_all := lw_g (lw_at lw_m2 35 rfl) rfl
theorem q373 : (Jvm.Cond.laysFinal "CliffHoney" "CliffHoney" "mads" "[I") ∈ lw_all := lw_g (lw_at lw_m2 36 rfl) rfl
theorem q374 : (Jvm.Cond.soleField "CliffHoney" "mads") ∈ lw_all := lw_g (lw_at lw_m2 37 rfl) rfl
theorem q375 : (Jvm.Cond.lays "CliffHoney" "CliffHoney" "many" "I") ∈ lw_all := lw_g (lw_at lw_m2 38 rfl) rfl
theorem q376 : (Jvm.Cond.soleField "CliffHoney" "many") ∈ lw_all := lw_g (lw_at lw_m2 39 rfl) rfl
theorem q377 : (Jvm.Cond.lays "CliffHoney" "CliffHoney" "date" "I") ∈ lw_all := lw_g (lw_at lw_m2 40 rfl) rfl
theorem q378 : (Jvm.Cond.soleField "CliffHoney" "date") ∈ lw_all := lw_g (lw_at lw_m2 41 rfl) rfl
theorem q379 : (Jvm.Cond.lays "CliffHoney" "CliffHoney" "wind" "I") ∈ lw_all := lw_g (lw_at lw_m2 42 rfl) rfl
theorem q380 : (Jvm.Cond.soleField "CliffHoney" "wind") ∈ lw_all := lw_g (lw_at lw_m2 43 rfl) rfl
theorem q381 : (Jvm.Cond.lays "CliffHoney" "CliffHoney" "sun" "I") ∈ lw_all := lw_g (lw_at lw_m2 44 rfl) rfl
theorem q382 : (Jvm.Cond.soleField "CliffHoney" "sun") ∈ lw_all := lw_g (lw_at lw_m2 45 rfl) rfl
theorem q383 : (Jvm.Cond.lays "CliffHoney" "CliffHoney" "stings" "I") ∈ lw_all := lw_g (lw_at lw_m2 46 rfl) rfl
theorem q384 : (Jvm.Cond.soleField "CliffHoney" "stings") ∈ lw_all := lw_g (lw_at lw_m2 47 rfl) rfl
theorem q385 : (Jvm.Cond.laysFinal "CliffHoney" "CliffHoney" "tape" "[B") ∈ lw_all := lw_g (lw_at lw_m2 48 rfl) rfl
theorem q386 : (Jvm.Cond.soleField "CliffHoney" "tape") ∈ lw_all := lw_g (lw_at lw_m2 49 rfl) rfl
theorem q387 : (Jvm.Cond.lays "CliffHoney" "CliffHoney" "taped" "I") ∈ lw_all := lw_g (lw_at lw_m2 50 rfl) rfl
theorem q388 : (Jvm.Cond.soleField "CliffHoney" "taped") ∈ lw_all := lw_g (lw_at lw_m2 51 rfl) rfl
theorem q389 : (Jvm.Cond.lays "CliffHoney" "CliffHoney" "faultKind" "I") ∈ lw_all := lw_g (lw_at lw_m2 52 rfl) rfl
theorem q390 : (Jvm.Cond.soleField "CliffHoney" "faultKind") ∈ lw_all := lw_g (lw_at lw_m2 53 rfl) rfl
theorem q391 : (Jvm.Cond.lays "CliffHoney" "CliffHoney" "faultPlace" "I") ∈ lw_all := lw_g (lw_at lw_m2 54 rfl) rfl
theorem q392 : (Jvm.Cond.soleField "CliffHoney" "faultPlace") ∈ lw_all := lw_g (lw_at lw_m2 55 rfl) rfl
theorem q393 : (Jvm.Cond.laysFinal "CliffHoney" "CliffHoney" "refusal" "LCliffHoney$Fault;") ∈ lw_all := lw_g (lw_at lw_m2 56 rfl) rfl
theorem q394 : (Jvm.Cond.soleField "CliffHoney" "refusal") ∈ lw_all := lw_g (lw_at lw_m2 57 rfl) rfl
theorem q395 : (Jvm.Cond.laysFinal "CliffHoney" "CliffHoney" "words" "[Ljava/lang/String;") ∈ lw_all := lw_g (lw_at lw_m2 58 rfl) rfl
theorem q396 : (Jvm.Cond.soleField "CliffHoney" "words") ∈ lw_all := lw_g (lw_at lw_m2 59 rfl) rfl
theorem q397 : (Jvm.Cond.laysFinal "CliffHoney" "CliffHoney" "reader" "LCliffHoney$Reader;") ∈ lw_all := lw_g (lw_at lw_m2 60 rfl) rfl
theorem q398 : (Jvm.Cond.soleField "CliffHoney" "reader") ∈ lw_all := lw_g (lw_at lw_m2 61 rfl) rfl
theorem q399 : (Jvm.Cond.laysFinal "CliffHoney" "CliffHoney" "lines" "[[LCliffHoney$Line;") ∈ lw_all := lw_g (lw_at lw_m2 62 rfl) rfl
theorem q400 : (Jvm.Cond.soleField "CliffHoney" "lines") ∈ lw_all := lw_g (lw_at lw_m2 63 rfl) rfl
theorem q401 : (Jvm.Cond.laysFinal "CliffHoney" "CliffHoney" "lineMany" "[I") ∈ lw_all := lw_g (lw_at lw_m2 64 rfl) rfl
theorem q402 : (Jvm.Cond.soleField "CliffHoney" "lineMany") ∈ lw_all := lw_g (lw_at lw_m2 65 rfl) rfl
theorem q403 : (Jvm.Cond.laysFinal "CliffHoney" "CliffHoney" "has" "[I") ∈ lw_all := lw_g (lw_at lw_m2 66 rfl) rfl
theorem q404 : (Jvm.Cond.soleField "CliffHoney" "has") ∈ lw_all := lw_g (lw_at lw_m2 67 rfl) rfl
theorem q405 : (Jvm.Cond.laysFinal "CliffHoney" "CliffHoney" "customs" "[LCliffHoney$Custom;") ∈ lw_all := lw_g (lw_at lw_m2 68 rfl) rfl
theorem q406 : (Jvm.Cond.soleField "CliffHoney" "customs") ∈ lw_all := lw_g (lw_at lw_m2 69 rfl) rfl
theorem q407 : (Jvm.Cond.laysFinal "CliffHoney" "CliffHoney" "longs" "[I") ∈ lw_all := lw_g (lw_at lw_m2 70 rfl) rfl
theorem q408 : (Jvm.Cond.soleField "CliffHoney" "longs") ∈ lw_all := lw_g (lw_at lw_m2 71 rfl) rfl
theorem q409 : (Jvm.Cond.laysFinal "CliffHoney" "CliffHoney" "madeIn" "[I") ∈ lw_all := lw_g (lw_at lw_m2 72 rfl) rfl
theorem q410 : (Jvm.Cond.soleField "CliffHoney" "madeIn") ∈ lw_all := lw_g (lw_at lw_m2 73 rfl) rfl
theorem q411 : (Jvm.Cond.lays "CliffHoney" "CliffHoney" "ladderMany" "I") ∈ lw_all := lw_g (lw_at lw_m2 74 rfl) rfl
theorem q412 : (Jvm.Cond.soleField "CliffHoney" "ladderMany") ∈ lw_all := lw_g (lw_at lw_m2 75 rfl) rfl
theorem q413 : (Jvm.Cond.laysFinal "CliffHoney" "CliffHoney" "cuts" "[I") ∈ lw_all := lw_g (lw_at lw_m2 76 rfl) rfl
theorem q414 : (Jvm.Cond.soleField "CliffHoney" "cuts") ∈ lw_all := lw_g (lw_at lw_m2 77 rfl) rfl
theorem q415 : (Jvm.Cond.laysFinal "CliffHoney" "CliffHoney" "trying" "[I") ∈ lw_all := lw_g (lw_at lw_m2 78 rfl) rfl
theorem q416 : (Jvm.Cond.soleField "CliffHoney" "trying") ∈ lw_all := lw_g (lw_at lw_m2 79 rfl) rfl
theorem q417 : (Jvm.Cond.laysFinal "CliffHoney" "CliffHoney" "best" "[I") ∈ lw_all := lw_g (lw_at lw_m2 80 rfl) rfl
theorem q418 : (Jvm.Cond.soleField "CliffHoney" "best") ∈ lw_all := lw_g (lw_at lw_m2 81 rfl) rfl
theorem q419 : (Jvm.Cond.lays "CliffHoney" "CliffHoney" "bestMany" "I") ∈ lw_all := lw_g (lw_at lw_m2 82 rfl) rfl
theorem q420 : (Jvm.Cond.soleField "CliffHoney" "bestMany") ∈ lw_all := lw_g (lw_at lw_m2 83 rfl) rfl
theorem q421 : (Jvm.Cond.lays "CliffHoney" "CliffHoney" "bestUnits" "I") ∈ lw_all := lw_g (lw_at lw_m2 84 rfl) rfl
theorem q422 : (Jvm.Cond.soleField "CliffHoney" "bestUnits") ∈ lw_all := lw_g (lw_at lw_m2 85 rfl) rfl
theorem q423 : (Jvm.Cond.lays "CliffHoney" "CliffHoney" "bestMinutes" "I") ∈ lw_all := lw_g (lw_at lw_m2 86 rfl) rfl
theorem q424 : (Jvm.Cond.soleField "CliffHoney" "bestMinutes") ∈ lw_all := lw_g (lw_at lw_m2 87 rfl) rfl
theorem q425 : (Jvm.Cond.lays "CliffHoney" "CliffHoney" "bestStings" "I") ∈ lw_all := lw_g (lw_at lw_m2 88 rfl) rfl
theorem q426 : (Jvm.Cond.soleField "CliffHoney" "bestStings") ∈ lw_all := lw_g (lw_at lw_m2 89 rfl) rfl
theorem q427 : (Jvm.Cond.laysFinal "CliffHoney" "CliffHoney" "people" "[LCliffHoney$Person;") ∈ lw_all := lw_g (lw_at lw_m2 90 rfl) rfl
theorem q428 : (Jvm.Cond.soleField "CliffHoney" "people") ∈ lw_all := lw_g (lw_at lw_m2 91 rfl) rfl
theorem q429 : (Jvm.Cond.lays "CliffHoney" "CliffHoney" "peopleMany" "I") ∈ lw_all := lw_g (lw_at lw_m2 92 rfl) rfl
theorem q430 : (Jvm.Cond.soleField "CliffHoney" "peopleMany") ∈ lw_all := lw_g (lw_at lw_m2 93 rfl) rfl
theorem q431 : (Jvm.Cond.lays "CliffHoney" "CliffHoney" "right" "I") ∈ lw_all := lw_g (lw_at lw_m2 94 rfl) rfl
theorem q432 : (Jvm.Cond.soleField "CliffHoney" "right") ∈ lw_all := lw_g (lw_at lw_m2 95 rfl) rfl
theorem q433 : (Jvm.Cond.laysFinal "CliffHoney" "CliffHoney" "villageMoney" "[I") ∈ lw_all := lw_g (lw_at lw_m2 96 rfl) rfl
theorem q434 : (Jvm.Cond.soleField "CliffHoney" "villageMoney") ∈ lw_all := lw_g (lw_at lw_m2 97 rfl) rfl
theorem q435 : (Jvm.Cond.lays "CliffHoney" "CliffHoney" "temple" "I") ∈ lw_all := lw_g (lw_at lw_m2 98 rfl) rfl
theorem q436 : (Jvm.Cond.soleField "CliffHoney" "temple") ∈ lw_all := lw_g (lw_at lw_m2 99 rfl) rfl
theorem q437 : (Jvm.Cond.lays "CliffHoney" "CliffHoney" "everCut" "I") ∈ lw_all := lw_g (lw_at lw_m2 100 rfl) rfl
theorem q438 : (Jvm.Cond.soleField "CliffHoney" "everCut") ∈ lw_all := lw_g (lw_at lw_m2 101 rfl) rfl
theorem q439 : (Jvm.Cond.laysFinal "CliffHoney" "CliffHoney" "lots" "[LCliffHoney$Lot;") ∈ lw_all := lw_g (lw_at lw_m2 102 rfl) rfl
theorem q440 : (Jvm.Cond.soleField "CliffHoney" "lots") ∈ lw_all := lw_g (lw_at lw_m2 103 rfl) rfl
theorem q441 : (Jvm.Cond.lays "CliffHoney" "CliffHoney" "lotMany" "I") ∈ lw_all := lw_g (lw_at lw_m2 104 rfl) rfl
theorem q442 : (Jvm.Cond.soleField "CliffHoney" "lotMany") ∈ lw_all := lw_g (lw_at lw_m2 105 rfl) rfl
theorem q443 : (Jvm.Cond.laysFinal "CliffHoney" "CliffHoney" "buyers" "[LCliffHoney$Buyer;") ∈ lw_all := lw_g (lw_at lw_m2 106 rfl) rfl
theorem q444 : (Jvm.Cond.soleField "CliffHoney" "buyers") ∈ lw_all := lw_g (lw_at lw_m2 107 rfl) rfl
theorem q445 : (Jvm.Cond.laysFinal "CliffHoney" "CliffHoney" "offered" "[I") ∈ lw_all := lw_g (lw_at lw_m2 108 rfl) rfl
theorem q446 : (Jvm.Cond.soleField "CliffHoney" "offered") ∈ lw_all := lw_g (lw_at lw_m2 109 rfl) rfl
theorem q447 : (Jvm.Cond.laysFinal "CliffHoney" "CliffHoney" "to" "[I") ∈ lw_all := lw_g (lw_at lw_m2 110 rfl) rfl
theorem q448 : (Jvm.Cond.soleField "CliffHoney" "to") ∈ lw_all := lw_g (lw_at lw_m2 111 rfl) rfl
theorem q449 : (Jvm.Cond.laysFinal "CliffHoney" "CliffHoney" "bestTo" "[I") ∈ lw_all := lw_g (lw_at lw_m2 112 rfl) rfl
theorem q450 : (Jvm.Cond.soleField "CliffHoney" "bestTo") ∈ lw_all := lw_g (lw_at lw_m2 113 rfl) rfl
theorem q451 : (Jvm.Cond.lays "CliffHoney" "CliffHoney" "buyerMany" "I") ∈ lw_all := lw_g (lw_at lw_m2 114 rfl) rfl
theorem q452 : (Jvm.Cond.soleField "CliffHoney" "buyerMany") ∈ lw_all := lw_g (lw_at lw_m2 115 rfl) rfl
theorem q453 : (Jvm.Cond.lays "CliffHoney" "CliffHoney" "offeredMany" "I") ∈ lw_all := lw_g (lw_at lw_m2 116 rfl) rfl
theorem q454 : (Jvm.Cond.soleField "CliffHoney" "offeredMany") ∈ lw_all := lw_g (lw_at lw_m2 117 rfl) rfl
theorem q455 : (Jvm.Cond.lays "CliffHoney" "CliffHoney" "bestMoney" "I") ∈ lw_all := lw_g (lw_at lw_m2 118 rfl) rfl
theorem q456 : (Jvm.Cond.soleField "CliffHoney" "bestMoney") ∈ lw_all := lw_g (lw_at lw_m2 119 rfl) rfl
theorem q457 : (Jvm.Cond.lays "CliffHoney" "CliffHoney" "bestSold" "I") ∈ lw_all := lw_g (lw_at lw_m2 120 rfl) rfl
theorem q458 : (Jvm.Cond.soleField "CliffHoney" "bestSold") ∈ lw_all := lw_g (lw_at lw_m2 121 rfl) rfl
theorem q459 : (Jvm.Cond.laysFinal "CliffHoney" "CliffHoney" "claimLedge" "[I") ∈ lw_all := lw_g (lw_at lw_m2 122 rfl) rfl
theorem q460 : (Jvm.Cond.soleField "CliffHoney" "claimLedge") ∈ lw_all := lw_g (lw_at lw_m2 123 rfl) rfl
theorem q461 : (Jvm.Cond.laysFinal "CliffHoney" "CliffHoney" "claimVillage" "[I") ∈ lw_all := lw_g (lw_at lw_m2 124 rfl) rfl
theorem q462 : (Jvm.Cond.soleField "CliffHoney" "claimVillage") ∈ lw_all := lw_g (lw_at lw_m2 125 rfl) rfl
theorem q463 : (Jvm.Cond.laysFinal "CliffHoney" "CliffHoney" "claimSeason" "[I") ∈ lw_all := lw_g (lw_at lw_m2 126 rfl) rfl
theorem q464 : (Jvm.Cond.soleField "CliffHoney" "claimSeason") ∈ lw_all := lw_g (lw_at lw_m2 127 rfl) rfl
theorem q465 : (Jvm.Cond.laysFinal "CliffHoney" "CliffHoney" "claimDate" "[I") ∈ lw_all := lw_g (lw_at lw_m2 128 rfl) rfl
theorem q466 : (Jvm.Cond.soleField "CliffHoney" "claimDate") ∈ lw_all := lw_g (lw_at lw_m2 129 rfl) rfl
theorem q467 : (Jvm.Cond.lays "CliffHoney" "CliffHoney" "claimMany" "I") ∈ lw_all := lw_g (lw_at lw_m2 130 rfl) rfl
theorem q468 : (Jvm.Cond.soleField "CliffHoney" "claimMany") ∈ lw_all := lw_g (lw_at lw_m2 131 rfl) rfl
theorem q469 : (Jvm.Cond.superclass "CliffHoney" "java/lang/Object") ∈ lw_all := lw_g (lw_at lw_m2 132 rfl) rfl
theorem q471 : (Jvm.Cond.instanceMethod ({ cls := "CliffHoney", name := "flowers", desc := "(III)Z" } : Jvm.MethodName)) ∈ lw_all := lw_g (lw_at lw_m2 134 rfl) rfl
theorem q472 : (Jvm.Cond.selects "CliffHoney" ({ cls := "CliffHoney", name := "flowers", desc := "(III)Z" } : Jvm.MethodName) ({ cls := "CliffHoney", name := "flowers", desc := "(III)Z" } : Jvm.MethodName)) ∈ lw_all := lw_g (lw_at lw_m2 135 rfl) rfl
theorem q473 : (Jvm.Cond.code ({ cls := "CliffHoney", name := "flowers", desc := "(III)Z" } : Jvm.MethodName) prog_1_method_8_code (4 : Nat) (Option.some Jvm.ClassFile.FieldType.boolean)) ∈ lw_all := lw_g (lw_at lw_m2 136 rfl) rfl
theorem q474 : (Jvm.Cond.methodLink "CliffHoney" (199 : Nat) ({ cls := "CliffHoney", name := "isIn", desc := "(III)Z" } : Jvm.MethodName)) ∈ lw_all := lw_g (lw_at lw_m2 137 rfl) rfl
theorem q475 : (Jvm.Cond.static ({ cls := "CliffHoney", name := "isIn", desc := "(III)Z" } : Jvm.MethodName)) ∈ lw_all := lw_g (lw_at lw_m2 138 rfl) rfl
theorem q476 : (Jvm.Cond.code ({ cls := "CliffHoney", name := "isIn", desc := "(III)Z" } : Jvm.MethodName) prog_1_method_2_code (3 : Nat) (Option.some Jvm.ClassFile.FieldType.boolean)) ∈ lw_all := lw_g (lw_at lw_m2 139 rfl) rfl
theorem q478 : (Jvm.Cond.instanceMethod ({ cls := "CliffHoney", name := "ledge", desc := "(IIII)I" } : Jvm.MethodName)) ∈ lw_all := lw_g (lw_at lw_m2 141 rfl) rfl
theorem q479 : (Jvm.Cond.selects "CliffHoney" ({ cls := "CliffHoney", name := "ledge", desc := "(IIII)I" } : Jvm.MethodName) ({ cls := "CliffHoney", name := "ledge", desc := "(IIII)I" } : Jvm.MethodName)) ∈ lw_all := lw_g (lw_at lw_m2 142 rfl) rfl
theorem q480 : (Jvm.Cond.code ({ cls := "CliffHoney", name := "ledge", desc := "(IIII)I" } : Jvm.MethodName) prog_1_method_9_code (7 : Nat) (Option.some Jvm.ClassFile.FieldType.int)) ∈ lw_all := lw_g (lw_at lw_m2 143 rfl) rfl
theorem q482 : (Jvm.Cond.methodLink "CliffHoney" (211 : Nat) ({ cls := "CliffHoney$Ledge", name := "<init>", desc := "(IIII)V" } : Jvm.MethodName)) ∈ lw_all := lw_g (lw_at lw_m2 145 rfl) rfl
theorem q487 : (Jvm.Cond.fieldLink "CliffHoney" (206 : Nat) "CliffHoney$Ledge" "column" "I") ∈ lw_all := lw_g (lw_at lw_m2 150 rfl) rfl
theorem q489 : (Jvm.Cond.fieldLink "CliffHoney" (209 : Nat) "CliffHoney$Ledge" "height" "I") ∈ lw_all := lw_g (lw_at lw_m2 152 rfl) rfl
theorem q492 : (Jvm.Cond.fieldLink "CliffHoney" (236 : Nat) "CliffHoney$Ledge" "finder" "I") ∈ lw_all := lw_g (lw_at lw_m2 155 rfl) rfl
theorem q494 : (Jvm.Cond.fieldLink "CliffHoney" (218 : Nat) "CliffHoney$Ledge" "strength" "I") ∈ lw_all := lw_g (lw_at lw_m2 157 rfl) rfl
theorem q496 : (Jvm.Cond.fieldLink "CliffHoney" (220 : Nat) "CliffHoney$Ledge" "comb" "I") ∈ lw_all := lw_g (lw_at lw_m2 159 rfl) rfl
theorem q498 : (Jvm.Cond.fieldLink "CliffHoney" (230 : Nat) "CliffHoney$Ledge" "kept" "I") ∈ lw_all := lw_g (lw_at lw_m2 161 rfl) rfl
theorem q500 : (Jvm.Cond.fieldLink "CliffHoney" (496 : Nat) "CliffHoney$Ledge" "low" "I") ∈ lw_all := lw_g (lw_at lw_m2 163 rfl) rfl
theorem q502 : (Jvm.Cond.fieldLink "CliffHoney" (497 : Nat) "CliffHoney$Ledge" "high" "I") ∈ lw_all := lw_g (lw_at lw_m2 165 rfl) rfl
theorem q504 : (Jvm.Cond.fieldLink "CliffHoney" (222 : Nat) "CliffHoney$Ledge" "madness" "J") ∈ lw_all := lw_g (lw_at lw_m2 167 rfl) rfl
theorem q506 : (Jvm.Cond.fieldLink "CliffHoney" (226 : Nat) "CliffHoney$Ledge" "isCut" "Z") ∈ lw_all := lw_g (lw_at lw_m2 169 rfl) rfl
theorem q508 : (Jvm.Cond.fieldLink "CliffHoney" (233 : Nat) "CliffHoney$Ledge" "isSprayed" "Z") ∈ lw_all := lw_g (lw_at lw_m2 171 rfl) rfl
theorem q533 : (Jvm.Cond.instanceMethod ({ cls := "CliffHoney", name := "of", desc := "(II)I" } : Jvm.MethodName)) ∈ lw_all := lw_g (lw_at lw_m2 196 rfl) rfl
theorem q534 : (Jvm.Cond.selects "CliffHoney" ({ cls := "CliffHoney", name := "of", desc := "(II)I" } : Jvm.MethodName) ({ cls := "CliffHoney", name := "of", desc := "(II)I" } : Jvm.MethodName)) ∈ lw_all := lw_g (lw_at lw_m2 197 rfl) rfl
theorem q535 : (Jvm.Cond.code ({ cls := "CliffHoney", name := "of", desc := "(II)I" } : Jvm.MethodName) prog_1_method_10_code (4 : Nat) (Option.some Jvm.ClassFile.FieldType.int)) ∈ lw_all := lw_g (lw_at lw_m2 198 rfl) rfl
theorem q536 : (Jvm.Cond.methodLink "CliffHoney" (214 : Nat) ({ cls := "CliffHoney", name := "isLedge", desc := "(I)Z" } : Jvm.MethodName)) ∈ lw_all := lw_g (lw_at lw_m2 199 rfl) rfl
theorem q537 : (Jvm.Cond.privateMethod ({ cls := "CliffHoney", name := "isLedge", desc := "(I)Z" } : Jvm.MethodName)) ∈ lw_tbl := lw_at lw_m2 200 rfl
theorem q538 : (Jvm.Cond.instanceMethod ({ cls := "CliffHoney", name := "isLedge", desc := "(I)Z" } : Jvm.MethodName)) ∈ lw_all := lw_g (lw_at lw_m2 201 rfl) rfl
theorem q539 : (Jvm.Cond.code ({ cls := "CliffHoney", name := "isLedge", desc := "(I)Z" } : Jvm.MethodName) prog_1_method_7_code (2 : Nat) (Option.some Jvm.ClassFile.FieldType.boolean)) ∈ lw_all := lw_g (lw_at lw_m2 202 rfl) rfl
theorem q541 : (Jvm.Cond.instanceMethod ({ cls := "CliffHoney", name := "spray", desc := "(I)Z" } : Jvm.MethodName)) ∈ lw_all := lw_g (lw_at lw_m2 204 rfl) rfl
theorem q542 : (Jvm.Cond.selects "CliffHoney" ({ cls := "CliffHoney", name := "spray", desc := "(I)Z" } : Jvm.MethodName) ({ cls := "CliffHoney", name := "spray", desc := "(I)Z" } : Jvm.MethodName)) ∈ lw_all := lw_g (lw_at lw_m2 205 rfl) rfl
theorem q543 : (Jvm.Cond.code ({ cls := "CliffHoney", name := "spray", desc := "(I)Z" } : Jvm.MethodName) prog_1_method_11_code (2 : Nat) (Option.some Jvm.ClassFile.FieldType.boolean)) ∈ lw_all := lw_g (lw_at lw_m2 206 rfl) rfl
theorem q545 : (Jvm.Cond.instanceMethod ({ cls := "CliffHoney", name := "days", desc := "(I)I" } : Jvm.MethodName)) ∈ lw_all := lw_g (lw_at lw_m2 208 rfl) rfl
theorem q546 : (Jvm.Cond.selects "CliffHoney" ({ cls := "CliffHoney", name := "days", desc := "(I)I" } : Jvm.MethodName) ({ cls := "CliffHoney", name := "days", desc := "(I)I" } : Jvm.MethodName)) ∈ lw_all := lw_g (lw_at lw_m2 209 rfl) rfl
theorem q547 : (Jvm.Cond.code ({ cls := "CliffHoney", name := "days", desc := "(I)I" } : Jvm.MethodName) prog_1_method_15_code (3 : Nat) (Option.some Jvm.ClassFile.FieldType.int)) ∈ lw_all := lw_g (lw_at lw_m2 210 rfl) rfl
theorem q548 : (Jvm.Cond.methodLink "CliffHoney" (256 : Nat) ({ cls := "CliffHoney", name := "grow", desc := "([LCliffHoney$Ledge;I)V" } : Jvm.MethodName)) ∈ lw_all := lw_g (lw_at lw_m2 211 rfl) rfl
theorem q549 : (Jvm.Cond.privateMethod ({ cls := "CliffHoney", name := "grow", desc := "([LCliffHoney$Ledge;I)V" } : Jvm.MethodName)) ∈ lw_tbl := lw_at lw_m2 212 rfl
theorem q550 : (Jvm.Cond.instanceMethod ({ cls := "CliffHoney", name := "grow", desc := "([LCliffHoney$Ledge;I)V" } : Jvm.MethodName)) ∈ lw_all := lw_g (lw_at lw_m2 213 rfl) rfl
theorem q551 : (Jvm.Cond.code ({ cls := "CliffHoney", name := "grow", desc := "([LCliffHoney$Ledge;I)V" } : Jvm.MethodName) prog_1_method_12_code (4 : Nat) (Option.none : Option Jvm.ClassFile.FieldType)) ∈ lw_all := lw_g (lw_at lw_m2 214 rfl) rfl
theorem q552 : (Jvm.Cond.methodLink "CliffHoney" (238 : Nat) ({ cls := "CliffHoney", name := "bloom", desc := "(II)I" } : Jvm.MethodName)) ∈ lw_all := lw_g (lw_at lw_m2 215 rfl) rfl
theorem q553 : (Jvm.Cond.static ({ cls := "CliffHoney", name := "bloom", desc := "(II)I" } : Jvm.MethodName)) ∈ lw_all := lw_g (lw_at lw_m2 216 rfl) rfl
theorem q554 : (Jvm.Cond.code ({ cls := "CliffHoney", name := "bloom", desc := "(II)I" } : Jvm.MethodName) prog_1_method_5_code (2 : Nat) (Option.some Jvm.ClassFile.FieldType.int)) ∈ lw_all := lw_g (lw_at lw_m2 217 rfl) rfl
theorem q555 : (Jvm.Cond.methodLink "CliffHoney" (190 : Nat) ({ cls := "CliffHoney", name := "month", desc := "(I)I" } : Jvm.MethodName)) ∈ lw_all := lw_g (lw_at lw_m2 218 rfl) rfl
theorem q556 : (Jvm.Cond.static ({ cls := "CliffHoney", name := "month", desc := "(I)I" } : Jvm.MethodName)) ∈ lw_all := lw_g (lw_at lw_m2 219 rfl) rfl
theorem q557 : (Jvm.Cond.code ({ cls := "CliffHoney", name := "month", desc := "(I)I" } : Jvm.MethodName) prog_1_method_4_code (1 : Nat) (Option.some Jvm.ClassFile.FieldType.int)) ∈ lw_all := lw_g (lw_at lw_m2 220 rfl) rfl
theorem q558 : (Jvm.Cond.methodLink "CliffHoney" (241 : Nat) ({ cls := "CliffHoney$Ledge", name := "grows", desc := "(II)V" } : Jvm.MethodName)) ∈ lw_all := lw_g (lw_at lw_m2 221 rfl) rfl
theorem q565 : (Jvm.Cond.methodLink "CliffHoney" (260 : Nat) ({ cls := "CliffHoney", name := "seasonEnds", desc := "([LCliffHoney$Ledge;)V" } : Jvm.MethodName)) ∈ lw_all := lw_g (lw_at lw_m2 228 rfl) rfl
theorem q566 : (Jvm.Cond.privateMethod ({ cls := "CliffHoney", name := "seasonEnds", desc := "([LCliffHoney$Ledge;)V" } : Jvm.MethodName)) ∈ lw_tbl := lw_at lw_m2 229 rfl
theorem q567 : (Jvm.Cond.instanceMethod ({ cls := "CliffHoney", name := "seasonEnds", desc := "([LCliffHoney$Ledge;)V" } : Jvm.MethodName)) ∈ lw_all := lw_g (lw_at lw_m2 230 rfl) rfl
theorem q568 : (Jvm.Cond.code ({ cls := "CliffHoney", name := "seasonEnds", desc := "([LCliffHoney$Ledge;)V" } : Jvm.MethodName) prog_1_method_14_code (4 : Nat) (Option.none : Option Jvm.ClassFile.FieldType)) ∈ lw_all := lw_g (lw_at lw_m2 231 rfl) rfl
theorem q569 : (Jvm.Cond.methodLink "CliffHoney" (249 : Nat) ({ cls := "CliffHoney$Ledge", name := "seasonEnds", desc := "()V" } : Jvm.MethodName)) ∈ lw_all := lw_g (lw_at lw_m2 232 rfl) rfl
theorem q578 : (Jvm.Cond.static ({ cls := "CliffHoney", name := "clamp", desc := "(III)I" } : Jvm.MethodName)) ∈ lw_all := lw_g (lw_at lw_m3 1 rfl) rfl
theorem q579 : (Jvm.Cond.code ({ cls := "CliffHoney", name := "clamp", desc := "(III)I" } : Jvm.MethodName) prog_1_method_3_code (3 : Nat) (Option.some Jvm.ClassFile.FieldType.int)) ∈ lw_all := lw_g (lw_at lw_m3 2 rfl) rfl
theorem q580 : (Jvm.Cond.methodLink "CliffHoney" (181 : Nat) ({ cls := "java/lang/Math", name := "min", desc := "(II)I" } : Jvm.MethodName)) ∈ lw_all := lw_g (lw_at lw_m3 3 rfl) rfl
theorem q581 : (Jvm.Cond.methodLink "CliffHoney" (187 : Nat) ({ cls := "java/lang/Math", name := "max", desc := "(II)I" } : Jvm.MethodName)) ∈ lw_all := lw_g (lw_at lw_m3 4 rfl) rfl
theorem q585 : (Jvm.Cond.methodLink "CliffHoney" (252 : Nat) ({ cls := "CliffHoney", name := "strongBeside", desc := "([LCliffHoney$Ledge;I)I" } : Jvm.MethodName)) ∈ lw_all := lw_g (lw_at lw_m3 8 rfl) rfl
theorem q586 : (Jvm.Cond.privateMethod ({ cls := "CliffHoney", name := "strongBeside", desc := "([LCliffHoney$Ledge;I)I" } : Jvm.MethodName)) ∈ lw_tbl := lw_at lw_m3 9 rfl
theorem q587 : (Jvm.Cond.instanceMethod ({ cls := "CliffHoney", name := "strongBeside", desc := "([LCliffHoney$Ledge;I)I" } : Jvm.MethodName)) ∈ lw_all := lw_g (lw_at lw_m3 10 rfl) rfl
theorem q588 : (Jvm.Cond.code ({ cls := "CliffHoney", name := "strongBeside", desc := "([LCliffHoney$Ledge;I)I" } : Jvm.MethodName) prog_1_method_13_code (5 : Nat) (Option.some Jvm.ClassFile.FieldType.int)) ∈ lw_all := lw_g (lw_at lw_m3 11 rfl) rfl
theorem q589 : (Jvm.Cond.methodLink "CliffHoney" (245 : Nat) ({ cls := "CliffHoney$Ledge", name := "far", desc := "(LCliffHoney$Ledge;)I" } : Jvm.MethodName)) ∈ lw_all := lw_g (lw_at lw_m3 12 rfl) rfl
theorem q597 : (Jvm.Cond.instanceMethod ({ cls := "CliffHoney", name := "weather", desc := "(III)Z" } : Jvm.MethodName)) ∈ lw_all := lw_g (lw_at lw_m3 20 rfl) rfl
theorem q598 : (Jvm.Cond.selects "CliffHoney" ({ cls := "CliffHoney", name := "weather", desc := "(III)Z" } : Jvm.MethodName) ({ cls := "CliffHoney", name := "weather", desc := "(III)Z" } : Jvm.MethodName)) ∈ lw_all := lw_g (lw_at lw_m3 21 rfl) rfl
theorem q599 : (Jvm.Cond.code ({ cls := "CliffHoney", name := "weather", desc := "(III)Z" } : Jvm.MethodName) prog_1_method_16_code (4 : Nat) (Option.some Jvm.ClassFile.FieldType.boolean)) ∈ lw_all := lw_g (lw_at lw_m3 22 rfl) rfl
theorem q601 : (Jvm.Cond.instanceMethod ({ cls := "CliffHoney", name := "look", desc := "(I)I" } : Jvm.MethodName)) ∈ lw_all := lw_g (lw_at lw_m3 24 rfl) rfl
theorem q602 : (Jvm.Cond.selects "CliffHoney" ({ cls := "CliffHoney", name := "look", desc := "(I)I" } : Jvm.MethodName) ({ cls := "CliffHoney", name := "look", desc := "(I)I" } : Jvm.MethodName)) ∈ lw_all := lw_g (lw_at lw_m3 25 rfl) rfl
theorem q603 : (Jvm.Cond.code ({ cls := "CliffHoney", name := "look", desc := "(I)I" } : Jvm.MethodName) prog_1_method_18_code (4 : Nat) (Option.some Jvm.ClassFile.FieldType.int)) ∈ lw_all := lw_g (lw_at lw_m3 26 rfl) rfl
theorem q604 : (Jvm.Cond.methodLink "CliffHoney" (265 : Nat) ({ cls := "CliffHoney", name := "season", desc := "()I" } : Jvm.MethodName)) ∈ lw_all := lw_g (lw_at lw_m3 27 rfl) rfl
theorem q605 : (Jvm.Cond.privateMethod ({ cls := "CliffHoney", name := "season", desc := "()I" } : Jvm.MethodName)) ∈ lw_tbl := lw_at lw_m3 28 rfl
theorem q606 : (Jvm.Cond.instanceMethod ({ cls := "CliffHoney", name := "season", desc := "()I" } : Jvm.MethodName)) ∈ lw_all := lw_g (lw_at lw_m3 29 rfl) rfl
theorem q607 : (Jvm.Cond.code ({ cls := "CliffHoney", name := "season", desc := "()I" } : Jvm.MethodName) prog_1_method_6_code (1 : Nat) (Option.some Jvm.ClassFile.FieldType.int)) ∈ lw_all := lw_g (lw_at lw_m3 30 rfl) rfl
theorem q608 : (Jvm.Cond.methodLink "CliffHoney" (280 : Nat) ({ cls := "CliffHoney", name := "strengths", desc := "([LCliffHoney$Ledge;)I" } : Jvm.MethodName)) ∈ lw_all := lw_g (lw_at lw_m3 31 rfl) rfl
theorem q609 : (Jvm.Cond.privateMethod ({ cls := "CliffHoney", name := "strengths", desc := "([LCliffHoney$Ledge;)I" } : Jvm.MethodName)) ∈ lw_tbl := lw_at lw_m3 32 rfl
theorem q610 : (Jvm.Cond.instanceMethod ({ cls := "CliffHoney", name := "strengths", desc := "([LCliffHoney$Ledge;)I" } : Jvm.MethodName)) ∈ lw_all := lw_g (lw_at lw_m3 33 rfl) rfl
theorem q611 : (Jvm.Cond.code ({ cls := "CliffHoney", name := "strengths", desc := "([LCliffHoney$Ledge;)I" } : Jvm.MethodName) prog_1_method_17_code (4 : Nat) (Option.some Jvm.ClassFile.FieldType.int)) ∈ lw_all := lw_g (lw_at lw_m3 34 rfl) rfl
theorem q613 : (Jvm.Cond.instanceMethod ({ cls := "CliffHoney", name := "rules", desc := "(I)I" } : Jvm.MethodName)) ∈ lw_all := lw_g (lw_at lw_m3 36 rfl) rfl
theorem q614 : (Jvm.Cond.selects "CliffHoney" ({ cls := "CliffHoney", name := "rules", desc := "(I)I" } : Jvm.MethodName) ({ cls := "CliffHoney", name := "rules", desc := "(I)I" } : Jvm.MethodName)) ∈ lw_all := lw_g (lw_at lw_m3 37 rfl) rfl
theorem q615 : (Jvm.Cond.codeWith ({ cls := "CliffHoney", name := "rules", desc := "(I)I" } : Jvm.MethodName) prog_1_method_21_code (5 : Nat) (Option.some Jvm.ClassFile.FieldType.int) [((0 : Nat), (9 : Nat), (124 : Nat), (39 : Nat)), ((16 : Nat), (117 : Nat), (124 : Nat), (39 : Nat)), ((0 : Nat), (9 : Nat), (150 : Nat), (0 : Nat)), ((16 : Nat), (117 : Nat), (150 : Nat), (0 : Nat)), ((124 : Nat), (143 : Nat), (150 : Nat), (0 : Nat)), ((150 : Nat), (152 : Nat), (150 : Nat), (0 : Nat))]) ∈ lw_all := lw_g (lw_at lw_m3 38 rfl) rfl
theorem q616 : (Jvm.Cond.methodLink "CliffHoney" (290 : Nat) ({ cls := "CliffHoney", name := "isRules", desc := "(I)Z" } : Jvm.MethodName)) ∈ lw_all := lw_g (lw_at lw_m3 39 rfl) rfl
theorem q617 : (Jvm.Cond.static ({ cls := "CliffHoney", name := "isRules", desc := "(I)Z" } : Jvm.MethodName)) ∈ lw_all := lw_g (lw_at lw_m3 40 rfl) rfl
theorem q618 : (Jvm.Cond.code ({ cls := "CliffHoney", name := "isRules", desc := "(I)Z" } : Jvm.MethodName) prog_1_method_20_code (1 : Nat) (Option.some Jvm.ClassFile.FieldType.boolean)) ∈ lw_all := lw_g (lw_at lw_m3 41 rfl) rfl
theorem q619 : (Jvm.Cond.methodLinkNest "CliffHoney" (296 : Nat) ({ cls := "CliffHoney$Reader", name := "read", desc := "()V" } : Jvm.MethodName) "CliffHoney") ∈ lw_tbl := lw_at lw_m3 42 rfl
theorem q908 : (Jvm.Cond.privateMethod ({ cls := "CliffHoney", name := "refused", desc := "(II)LCliffHoney$Fault;" } : Jvm.MethodName)) ∈ lw_tbl := lw_at lw_m4 91 rfl
theorem q909 : (Jvm.Cond.instanceMethod ({ cls := "CliffHoney", name := "refused", desc := "(II)LCliffHoney$Fault;" } : Jvm.MethodName)) ∈ lw_all := lw_g (lw_at lw_m4 92 rfl) rfl
theorem q910 : (Jvm.Cond.code ({ cls := "CliffHoney", name := "refused", desc := "(II)LCliffHoney$Fault;" } : Jvm.MethodName) prog_1_method_19_code (3 : Nat) (Option.some (Jvm.ClassFile.FieldType.object "CliffHoney$Fault"))) ∈ lw_all := lw_g (lw_at lw_m4 93 rfl) rfl
theorem q1076 : (Jvm.Cond.methodLink "CliffHoney" (306 : Nat) ({ cls := "CliffHoney$Line", name := "tells", desc := "(LCliffHoney$Custom;)V" } : Jvm.MethodName)) ∈ lw_all := lw_g (lw_at lw_m5 19 rfl) rfl
theorem q1092 : (Jvm.Cond.instanceMethod ({ cls := "CliffHoney", name := "fault", desc := "(I)I" } : Jvm.MethodName)) ∈ lw_all := lw_g (lw_at lw_m5 35 rfl) rfl
theorem q1093 : (Jvm.Cond.selects "CliffHoney" ({ cls := "CliffHoney", name := "fault", desc := "(I)I" } : Jvm.MethodName) ({ cls := "CliffHoney", name := "fault", desc := "(I)I" } : Jvm.MethodName)) ∈ lw_all := lw_g (lw_at lw_m5 36 rfl) rfl
theorem q1094 : (Jvm.Cond.code ({ cls := "CliffHoney", name := "fault", desc := "(I)I" } : Jvm.MethodName) prog_1_method_22_code (2 : Nat) (Option.some Jvm.ClassFile.FieldType.int)) ∈ lw_all := lw_g (lw_at lw_m5 37 rfl) rfl
theorem q1096 : (Jvm.Cond.instanceMethod ({ cls := "CliffHoney", name := "feed", desc := "(IIIII)I" } : Jvm.MethodName)) ∈ lw_all := lw_g (lw_at lw_m5 39 rfl) rfl
theorem q1097 : (Jvm.Cond.selects "CliffHoney" ({ cls := "CliffHoney", name := "feed", desc := "(IIIII)I" } : Jvm.MethodName) ({ cls := "CliffHoney", name := "feed", desc := "(IIIII)I" } : Jvm.MethodName)) ∈ lw_all := lw_g (lw_at lw_m5 40 rfl) rfl
theorem q1098 : (Jvm.Cond.code ({ cls := "CliffHoney", name := "feed", desc := "(IIIII)I" } : Jvm.MethodName) prog_1_method_24_code (6 : Nat) (Option.some Jvm.ClassFile.FieldType.int)) ∈ lw_all := lw_g (lw_at lw_m5 41 rfl) rfl
theorem q1099 : (Jvm.Cond.methodLink "CliffHoney" (315 : Nat) ({ cls := "CliffHoney", name := "puts", desc := "(I)V" } : Jvm.MethodName)) ∈ lw_all := lw_g (lw_at lw_m5 42 rfl) rfl
theorem q1100 : (Jvm.Cond.privateMethod ({ cls := "CliffHoney", name := "puts", desc := "(I)V" } : Jvm.MethodName)) ∈ lw_tbl := lw_at lw_m5 43 rfl
theorem q1101 : (Jvm.Cond.instanceMethod ({ cls := "CliffHoney", name := "puts", desc := "(I)V" } : Jvm.MethodName)) ∈ lw_all := lw_g (lw_at lw_m5 44 rfl) rfl
theorem q1102 : (Jvm.Cond.code ({ cls := "CliffHoney", name := "puts", desc := "(I)V" } : Jvm.MethodName) prog_1_method_23_code (3 : Nat) (Option.none : Option Jvm.ClassFile.FieldType)) ∈ lw_all := lw_g (lw_at lw_m5 45 rfl) rfl
theorem q1104 : (Jvm.Cond.instanceMethod ({ cls := "CliffHoney", name := "end", desc := "(I)Z" } : Jvm.MethodName)) ∈ lw_all := lw_g (lw_at lw_m5 47 rfl) rfl
theorem q1105 : (Jvm.Cond.selects "CliffHoney" ({ cls := "CliffHoney", name := "end", desc := "(I)Z" } : Jvm.MethodName) ({ cls := "CliffHoney", name := "end", desc := "(I)Z" } : Jvm.MethodName)) ∈ lw_all := lw_g (lw_at lw_m5 48 rfl) rfl
theorem q1106 : (Jvm.Cond.code ({ cls := "CliffHoney", name := "end", desc := "(I)Z" } : Jvm.MethodName) prog_1_method_25_code (2 : Nat) (Option.some Jvm.ClassFile.FieldType.boolean)) ∈ lw_all := lw_g (lw_at lw_m5 49 rfl) rfl
theorem q1108 : (Jvm.Cond.instanceMethod ({ cls := "CliffHoney", name := "ruled", desc := "(II)I" } : Jvm.MethodName)) ∈ lw_all := lw_g (lw_at lw_m5 51 rfl) rfl
theorem q1109 : (Jvm.Cond.selects "CliffHoney" ({ cls := "CliffHoney", name := "ruled", desc := "(II)I" } : Jvm.MethodName) ({ cls := "CliffHoney", name := "ruled", desc := "(II)I" } : Jvm.MethodName)) ∈ lw_all := lw_g (lw_at lw_m5 52 rfl) rfl
theorem q1110 : (Jvm.Cond.code ({ cls := "CliffHoney", name := "ruled", desc := "(II)I" } : Jvm.MethodName) prog_1_method_26_code (3 : Nat) (Option.some Jvm.ClassFile.FieldType.int)) ∈ lw_all := lw_g (lw_at lw_m5 53 rfl) rfl
theorem q1112 : (Jvm.Cond.instanceMethod ({ cls := "CliffHoney", name := "asked", desc := "(III)I" } : Jvm.MethodName)) ∈ lw_all := lw_g (lw_at lw_m5 55 rfl) rfl
theorem q1113 : (Jvm.Cond.selects "CliffHoney" ({ cls := "CliffHoney", name := "asked", desc := "(III)I" } : Jvm.MethodName) ({ cls := "CliffHoney", name := "asked", desc := "(III)I" } : Jvm.MethodName)) ∈ lw_all := lw_g (lw_at lw_m5 56 rfl) rfl
theorem q1114 : (Jvm.Cond.code ({ cls := "CliffHoney", name := "asked", desc := "(III)I" } : Jvm.MethodName) prog_1_method_29_code (5 : Nat) (Option.some Jvm.ClassFile.FieldType.int)) ∈ lw_all := lw_g (lw_at lw_m5 57 rfl) rfl
theorem q1115 : (Jvm.Cond.methodLink "CliffHoney" (336 : Nat) ({ cls := "CliffHoney", name := "ask", desc := "(ILCliffHoney$Ledge;II)LCliffHoney$Custom;" } : Jvm.MethodName)) ∈ lw_all := lw_g (lw_at lw_m5 58 rfl) rfl
theorem q1116 : (Jvm.Cond.privateMethod ({ cls := "CliffHoney", name := "ask", desc := "(ILCliffHoney$Ledge;II)LCliffHoney$Custom;" } : Jvm.MethodName)) ∈ lw_tbl := lw_at lw_m5 59 rfl
theorem q1117 : (Jvm.Cond.instanceMethod ({ cls := "CliffHoney", name := "ask", desc := "(ILCliffHoney$Ledge;II)LCliffHoney$Custom;" } : Jvm.MethodName)) ∈ lw_all := lw_g (lw_at lw_m5 60 rfl) rfl
theorem q1118 : (Jvm.Cond.code ({ cls := "CliffHoney", name := "ask", desc := "(ILCliffHoney$Ledge;II)LCliffHoney$Custom;" } : Jvm.MethodName) prog_1_method_27_code (7 : Nat) (Option.some (Jvm.ClassFile.FieldType.object "CliffHoney$Custom"))) ∈ lw_all := lw_g (lw_at lw_m5 61 rfl) rfl
theorem q1119 : (Jvm.Cond.methodLink "CliffHoney" (332 : Nat) ({ cls := "CliffHoney$Line", name := "asks", desc := "([ILCliffHoney$Custom;)V" } : Jvm.MethodName)) ∈ lw_all := lw_g (lw_at lw_m5 62 rfl) rfl
theorem q1161 : (Jvm.Cond.methodLink "CliffHoney" (340 : Nat) ({ cls := "CliffHoney", name := "left", desc := "(LCliffHoney$Ledge;LCliffHoney$Custom;)I" } : Jvm.MethodName)) ∈ lw_all := lw_g (lw_at lw_m5 104 rfl) rfl
theorem q1162 : (Jvm.Cond.static ({ cls := "CliffHoney", name := "left", desc := "(LCliffHoney$Ledge;LCliffHoney$Custom;)I" } : Jvm.MethodName)) ∈ lw_all := lw_g (lw_at lw_m5 105 rfl) rfl
theorem q1163 : (Jvm.Cond.code ({ cls := "CliffHoney", name := "left", desc := "(LCliffHoney$Ledge;LCliffHoney$Custom;)I" } : Jvm.MethodName) prog_1_method_28_code (2 : Nat) (Option.some Jvm.ClassFile.FieldType.int)) ∈ lw_all := lw_g (lw_at lw_m5 106 rfl) rfl
theorem q1165 : (Jvm.Cond.instanceMethod ({ cls := "CliffHoney", name := "ladder", desc := "(II)I" } : Jvm.MethodName)) ∈ lw_all := lw_g (lw_at lw_m5 108 rfl) rfl
theorem q1166 : (Jvm.Cond.selects "CliffHoney" ({ cls := "CliffHoney", name := "ladder", desc := "(II)I" } : Jvm.MethodName) ({ cls := "CliffHoney", name := "ladder", desc := "(II)I" } : Jvm.MethodName)) ∈ lw_all := lw_g (lw_at lw_m5 109 rfl) rfl
theorem q1167 : (Jvm.Cond.code ({ cls := "CliffHoney", name := "ladder", desc := "(II)I" } : Jvm.MethodName) prog_1_method_32_code (3 : Nat) (Option.some Jvm.ClassFile.FieldType.int)) ∈ lw_all := lw_g (lw_at lw_m5 110 rfl) rfl
theorem q1169 : (Jvm.Cond.instanceMethod ({ cls := "CliffHoney", name := "rung", desc := "(II)I" } : Jvm.MethodName)) ∈ lw_all := lw_g (lw_at lw_m5 112 rfl) rfl
theorem q1170 : (Jvm.Cond.selects "CliffHoney" ({ cls := "CliffHoney", name := "rung", desc := "(II)I" } : Jvm.MethodName) ({ cls := "CliffHoney", name := "rung", desc := "(II)I" } : Jvm.MethodName)) ∈ lw_all := lw_g (lw_at lw_m5 113 rfl) rfl
theorem q1171 : (Jvm.Cond.code ({ cls := "CliffHoney", name := "rung", desc := "(II)I" } : Jvm.MethodName) prog_1_method_33_code (3 : Nat) (Option.some Jvm.ClassFile.FieldType.int)) ∈ lw_all := lw_g (lw_at lw_m5 114 rfl) rfl
theorem q1172 : (Jvm.Cond.methodLink "CliffHoney" (347 : Nat) ({ cls := "CliffHoney", name := "isLadder", desc := "(I)Z" } : Jvm.MethodName)) ∈ lw_all := lw_g (lw_at lw_m5 115 rfl) rfl
theorem q1173 : (Jvm.Cond.privateMethod ({ cls := "CliffHoney", name := "isLadder", desc := "(I)Z" } : Jvm.MethodName)) ∈ lw_tbl := lw_at lw_m5 116 rfl
theorem q1174 : (Jvm.Cond.instanceMethod ({ cls := "CliffHoney", name := "isLadder", desc := "(I)Z" } : Jvm.MethodName)) ∈ lw_all := lw_g (lw_at lw_m5 117 rfl) rfl
theorem q1175 : (Jvm.Cond.code ({ cls := "CliffHoney", name := "isLadder", desc := "(I)Z" } : Jvm.MethodName) prog_1_method_30_code (2 : Nat) (Option.some Jvm.ClassFile.FieldType.boolean)) ∈ lw_all := lw_g (lw_at lw_m5 118 rfl) rfl
theorem q1176 : (Jvm.Cond.methodLink "CliffHoney" (350 : Nat) ({ cls := "CliffHoney", name := "bears", desc := "(I)I" } : Jvm.MethodName)) ∈ lw_all := lw_g (lw_at lw_m5 119 rfl) rfl
theorem q1177 : (Jvm.Cond.privateMethod ({ cls := "CliffHoney", name := "bears", desc := "(I)I" } : Jvm.MethodName)) ∈ lw_tbl := lw_at lw_m5 120 rfl
theorem q1178 : (Jvm.Cond.instanceMethod ({ cls := "CliffHoney", name := "bears", desc := "(I)I" } : Jvm.MethodName)) ∈ lw_all := lw_g (lw_at lw_m5 121 rfl) rfl
theorem q1179 : (Jvm.Cond.code ({ cls := "CliffHoney", name := "bears", desc := "(I)I" } : Jvm.MethodName) prog_1_method_31_code (2 : Nat) (Option.some Jvm.ClassFile.FieldType.int)) ∈ lw_all := lw_g (lw_at lw_m5 122 rfl) rfl
theorem q1181 : (Jvm.Cond.instanceMethod ({ cls := "CliffHoney", name := "reach", desc := "(III)I" } : Jvm.MethodName)) ∈ lw_all := lw_g (lw_at lw_m5 124 rfl) rfl
theorem q1182 : (Jvm.Cond.selects "CliffHoney" ({ cls := "CliffHoney", name := "reach", desc := "(III)I" } : Jvm.MethodName) ({ cls := "CliffHoney", name := "reach", desc := "(III)I" } : Jvm.MethodName)) ∈ lw_all := lw_g (lw_at lw_m5 125 rfl) rfl
theorem q1183 : (Jvm.Cond.code ({ cls := "CliffHoney", name := "reach", desc := "(III)I" } : Jvm.MethodName) prog_1_method_36_code (4 : Nat) (Option.some Jvm.ClassFile.FieldType.int)) ∈ lw_all := lw_g (lw_at lw_m5 126 rfl) rfl
theorem q1184 : (Jvm.Cond.methodLink "CliffHoney" (359 : Nat) ({ cls := "CliffHoney", name := "canReach", desc := "(III)Z" } : Jvm.MethodName)) ∈ lw_all := lw_g (lw_at lw_m5 127 rfl) rfl
theorem q1185 : (Jvm.Cond.privateMethod ({ cls := "CliffHoney", name := "canReach", desc := "(III)Z" } : Jvm.MethodName)) ∈ lw_tbl := lw_at lw_m5 128 rfl
theorem q1186 : (Jvm.Cond.instanceMethod ({ cls := "CliffHoney", name := "canReach", desc := "(III)Z" } : Jvm.MethodName)) ∈ lw_all := lw_g (lw_at lw_m5 129 rfl) rfl
theorem q1187 : (Jvm.Cond.code ({ cls := "CliffHoney", name := "canReach", desc := "(III)Z" } : Jvm.MethodName) prog_1_method_35_code (4 : Nat) (Option.some Jvm.ClassFile.FieldType.boolean)) ∈ lw_all := lw_g (lw_at lw_m5 130 rfl) rfl
theorem q1188 : (Jvm.Cond.methodLink "CliffHoney" (356 : Nat) ({ cls := "CliffHoney", name := "isPerson", desc := "(I)Z" } : Jvm.MethodName)) ∈ lw_all := lw_g (lw_at lw_m5 131 rfl) rfl
theorem q1189 : (Jvm.Cond.privateMethod ({ cls := "CliffHoney", name := "isPerson", desc := "(I)Z" } : Jvm.MethodName)) ∈ lw_tbl := lw_at lw_m5 132 rfl
theorem q1190 : (Jvm.Cond.instanceMethod ({ cls := "CliffHoney", name := "isPerson", desc := "(I)Z" } : Jvm.MethodName)) ∈ lw_all := lw_g (lw_at lw_m5 133 rfl) rfl
theorem q1191 : (Jvm.Cond.code ({ cls := "CliffHoney", name := "isPerson", desc := "(I)Z" } : Jvm.MethodName) prog_1_method_41_code (2 : Nat) (Option.some Jvm.ClassFile.FieldType.boolean)) ∈ lw_all := lw_g (lw_at lw_m5 134 rfl) rfl
theorem q1192 : (Jvm.Cond.methodLink "CliffHoney" (365 : Nat) ({ cls := "CliffHoney", name := "reachOf", desc := "(III)I" } : Jvm.MethodName)) ∈ lw_all := lw_g (lw_at lw_m5 135 rfl) rfl
theorem q1193 : (Jvm.Cond.privateMethod ({ cls := "CliffHoney", name := "reachOf", desc := "(III)I" } : Jvm.MethodName)) ∈ lw_tbl := lw_at lw_m5 136 rfl
theorem q1194 : (Jvm.Cond.instanceMethod ({ cls := "CliffHoney", name := "reachOf", desc := "(III)I" } : Jvm.MethodName)) ∈ lw_all := lw_g (lw_at lw_m5 137 rfl) rfl
theorem q1195 : (Jvm.Cond.code ({ cls := "CliffHoney", name := "reachOf", desc := "(III)I" } : Jvm.MethodName) prog_1_method_34_code (8 : Nat) (Option.some Jvm.ClassFile.FieldType.int)) ∈ lw_all := lw_g (lw_at lw_m5 138 rfl) rfl
theorem q1196 : (Jvm.Cond.methodLink "CliffHoney" (353 : Nat) ({ cls := "java/lang/Math", name := "abs", desc := "(I)I" } : Jvm.MethodName)) ∈ lw_all := lw_g (lw_at lw_m5 139 rfl) rfl
theorem q1198 : (Jvm.Cond.instanceMethod ({ cls := "CliffHoney", name := "row", desc := "(IIII)I" } : Jvm.MethodName)) ∈ lw_all := lw_g (lw_at lw_m5 141 rfl) rfl
theorem q1199 : (Jvm.Cond.selects "CliffHoney" ({ cls := "CliffHoney", name := "row", desc := "(IIII)I" } : Jvm.MethodName) ({ cls := "CliffHoney", name := "row", desc := "(IIII)I" } : Jvm.MethodName)) ∈ lw_all := lw_g (lw_at lw_m5 142 rfl) rfl
theorem q1200 : (Jvm.Cond.code ({ cls := "CliffHoney", name := "row", desc := "(IIII)I" } : Jvm.MethodName) prog_1_method_40_code (5 : Nat) (Option.some Jvm.ClassFile.FieldType.int)) ∈ lw_all := lw_g (lw_at lw_m5 143 rfl) rfl
theorem q1201 : (Jvm.Cond.methodLink "CliffHoney" (395 : Nat) ({ cls := "CliffHoney", name := "findRow", desc := "(III)V" } : Jvm.MethodName)) ∈ lw_all := lw_g (lw_at lw_m5 144 rfl) rfl
theorem q1202 : (Jvm.Cond.privateMethod ({ cls := "CliffHoney", name := "findRow", desc := "(III)V" } : Jvm.MethodName)) ∈ lw_tbl := lw_at lw_m5 145 rfl
theorem q1203 : (Jvm.Cond.instanceMethod ({ cls := "CliffHoney", name := "findRow", desc := "(III)V" } : Jvm.MethodName)) ∈ lw_all := lw_g (lw_at lw_m5 146 rfl) rfl
theorem q1204 : (Jvm.Cond.code ({ cls := "CliffHoney", name := "findRow", desc := "(III)V" } : Jvm.MethodName) prog_1_method_39_code (7 : Nat) (Option.none : Option Jvm.ClassFile.FieldType)) ∈ lw_all := lw_g (lw_at lw_m5 147 rfl) rfl
theorem q1205 : (Jvm.Cond.methodLink "CliffHoney" (391 : Nat) ({ cls := "CliffHoney", name := "tries", desc := "(IIIIII)V" } : Jvm.MethodName)) ∈ lw_all := lw_g (lw_at lw_m5 148 rfl) rfl
theorem q1206 : (Jvm.Cond.privateMethod ({ cls := "CliffHoney", name := "tries", desc := "(IIIIII)V" } : Jvm.MethodName)) ∈ lw_tbl := lw_at lw_m5 149 rfl
theorem q1207 : (Jvm.Cond.instanceMethod ({ cls := "CliffHoney", name := "tries", desc := "(IIIIII)V" } : Jvm.MethodName)) ∈ lw_all := lw_g (lw_at lw_m5 150 rfl) rfl
theorem q1208 : (Jvm.Cond.code ({ cls := "CliffHoney", name := "tries", desc := "(IIIIII)V" } : Jvm.MethodName) prog_1_method_38_code (11 : Nat) (Option.none : Option Jvm.ClassFile.FieldType)) ∈ lw_all := lw_g (lw_at lw_m5 151 rfl) rfl
theorem q1209 : (Jvm.Cond.methodLink "CliffHoney" (381 : Nat) ({ cls := "java/lang/System", name := "arraycopy", desc := "(Ljava/lang/Object;ILjava/lang/Object;II)V" } : Jvm.MethodName)) ∈ lw_all := lw_g (lw_at lw_m5 152 rfl) rfl
theorem q1210 : (Jvm.Cond.methodLink "CliffHoney" (387 : Nat) ({ cls := "CliffHoney", name := "isSmoked", desc := "(ILCliffHoney$Ledge;)Z" } : Jvm.MethodName)) ∈ lw_all := lw_g (lw_at lw_m5 153 rfl) rfl
theorem q1211 : (Jvm.Cond.privateMethod ({ cls := "CliffHoney", name := "isSmoked", desc := "(ILCliffHoney$Ledge;)Z" } : Jvm.MethodName)) ∈ lw_tbl := lw_at lw_m5 154 rfl
theorem q1212 : (Jvm.Cond.instanceMethod ({ cls := "CliffHoney", name := "isSmoked", desc := "(ILCliffHoney$Ledge;)Z" } : Jvm.MethodName)) ∈ lw_all := lw_g (lw_at lw_m5 155 rfl) rfl
theorem q1213 : (Jvm.Cond.code ({ cls := "CliffHoney", name := "isSmoked", desc := "(ILCliffHoney$Ledge;)Z" } : Jvm.MethodName) prog_1_method_37_code (5 : Nat) (Option.some Jvm.ClassFile.FieldType.boolean)) ∈ lw_all := lw_g (lw_at lw_m5 156 rfl) rfl
theorem q1215 : (Jvm.Cond.instanceMethod ({ cls := "CliffHoney", name := "person", desc := "(I)I" } : Jvm.MethodName)) ∈ lw_all := lw_g (lw_at lw_m5 158 rfl) rfl
theorem q1216 : (Jvm.Cond.selects "CliffHoney" ({ cls := "CliffHoney", name := "person", desc := "(I)I" } : Jvm.MethodName) ({ cls := "CliffHoney", name := "person", desc := "(I)I" } : Jvm.MethodName)) ∈ lw_all := lw_g (lw_at lw_m5 159 rfl) rfl
theorem q1217 : (Jvm.Cond.code ({ cls := "CliffHoney", name := "person", desc := "(I)I" } : Jvm.MethodName) prog_1_method_43_code (2 : Nat) (Option.some Jvm.ClassFile.FieldType.int)) ∈ lw_all := lw_g (lw_at lw_m5 160 rfl) rfl
theorem q1219 : (Jvm.Cond.methodLink "CliffHoney" (402 : Nat) ({ cls := "CliffHoney$Person", name := "<init>", desc := "(I)V" } : Jvm.MethodName)) ∈ lw_all := lw_g (lw_at lw_m5 162 rfl) rfl
theorem q1224 : (Jvm.Cond.fieldLink "CliffHoney" (362 : Nat) "CliffHoney$Person" "weight" "I") ∈ lw_all := lw_g (lw_at lw_m5 167 rfl) rfl
theorem q1226 : (Jvm.Cond.fieldLink "CliffHoney" (404 : Nat) "CliffHoney$Person" "heir" "I") ∈ lw_all := lw_g (lw_at lw_m5 169 rfl) rfl
theorem q1227 : (Jvm.Cond.fieldLink "CliffHoney" (412 : Nat) "CliffHoney$Person" "learned" "I") ∈ lw_all := lw_g (lw_at lw_m5 170 rfl) rfl
theorem q1229 : (Jvm.Cond.fieldLink "CliffHoney" (415 : Nat) "CliffHoney$Person" "money" "I") ∈ lw_all := lw_g (lw_at lw_m5 172 rfl) rfl
theorem q1231 : (Jvm.Cond.fieldLink "CliffHoney" (399 : Nat) "CliffHoney$Person" "isAlive" "Z") ∈ lw_all := lw_g (lw_at lw_m5 174 rfl) rfl
theorem q1244 : (Jvm.Cond.instanceMethod ({ cls := "CliffHoney", name := "heir", desc := "(II)Z" } : Jvm.MethodName)) ∈ lw_all := lw_g (lw_at lw_m5 187 rfl) rfl
theorem q1245 : (Jvm.Cond.selects "CliffHoney" ({ cls := "CliffHoney", name := "heir", desc := "(II)Z" } : Jvm.MethodName) ({ cls := "CliffHoney", name := "heir", desc := "(II)Z" } : Jvm.MethodName)) ∈ lw_all := lw_g (lw_at lw_m5 188 rfl) rfl
theorem q1246 : (Jvm.Cond.code ({ cls := "CliffHoney", name := "heir", desc := "(II)Z" } : Jvm.MethodName) prog_1_method_44_code (3 : Nat) (Option.some Jvm.ClassFile.FieldType.boolean)) ∈ lw_all := lw_g (lw_at lw_m5 189 rfl) rfl
theorem q1248 : (Jvm.Cond.instanceMethod ({ cls := "CliffHoney", name := "dies", desc := "(I)Z" } : Jvm.MethodName)) ∈ lw_all := lw_g (lw_at lw_m5 191 rfl) rfl
theorem q1249 : (Jvm.Cond.selects "CliffHoney" ({ cls := "CliffHoney", name := "dies", desc := "(I)Z" } : Jvm.MethodName) ({ cls := "CliffHoney", name := "dies", desc := "(I)Z" } : Jvm.MethodName)) ∈ lw_all := lw_g (lw_at lw_m5 192 rfl) rfl
theorem q1250 : (Jvm.Cond.code ({ cls := "CliffHoney", name := "dies", desc := "(I)Z" } : Jvm.MethodName) prog_1_method_46_code (2 : Nat) (Option.some Jvm.ClassFile.FieldType.boolean)) ∈ lw_all := lw_g (lw_at lw_m5 193 rfl) rfl
theorem q1251 : (Jvm.Cond.methodLink "CliffHoney" (407 : Nat) ({ cls := "CliffHoney", name := "isAlive", desc := "(I)Z" } : Jvm.MethodName)) ∈ lw_all := lw_g (lw_at lw_m5 194 rfl) rfl
theorem q1252 : (Jvm.Cond.privateMethod ({ cls := "CliffHoney", name := "isAlive", desc := "(I)Z" } : Jvm.MethodName)) ∈ lw_tbl := lw_at lw_m5 195 rfl
theorem q1253 : (Jvm.Cond.instanceMethod ({ cls := "CliffHoney", name := "isAlive", desc := "(I)Z" } : Jvm.MethodName)) ∈ lw_all := lw_g (lw_at lw_m5 196 rfl) rfl
theorem q1254 : (Jvm.Cond.code ({ cls := "CliffHoney", name := "isAlive", desc := "(I)Z" } : Jvm.MethodName) prog_1_method_42_code (2 : Nat) (Option.some Jvm.ClassFile.FieldType.boolean)) ∈ lw_all := lw_g (lw_at lw_m5 197 rfl) rfl
theorem q1255 : (Jvm.Cond.methodLink "CliffHoney" (409 : Nat) ({ cls := "CliffHoney", name := "behind", desc := "(I)I" } : Jvm.MethodName)) ∈ lw_all := lw_g (lw_at lw_m5 198 rfl) rfl
theorem q1256 : (Jvm.Cond.privateMethod ({ cls := "CliffHoney", name := "behind", desc := "(I)I" } : Jvm.MethodName)) ∈ lw_tbl := lw_at lw_m5 199 rfl
theorem q1257 : (Jvm.Cond.instanceMethod ({ cls := "CliffHoney", name := "behind", desc := "(I)I" } : Jvm.MethodName)) ∈ lw_all := lw_g (lw_at lw_m5 200 rfl) rfl
theorem q1258 : (Jvm.Cond.code ({ cls := "CliffHoney", name := "behind", desc := "(I)I" } : Jvm.MethodName) prog_1_method_45_code (5 : Nat) (Option.some Jvm.ClassFile.FieldType.int)) ∈ lw_all := lw_g (lw_at lw_m5 201 rfl) rfl
theorem q1260 : (Jvm.Cond.instanceMethod ({ cls := "CliffHoney", name := "gives", desc := "(I)Z" } : Jvm.MethodName)) ∈ lw_all := lw_g (lw_at lw_m5 203 rfl) rfl
theorem q1261 : (Jvm.Cond.selects "CliffHoney" ({ cls := "CliffHoney", name := "gives", desc := "(I)Z" } : Jvm.MethodName) ({ cls := "CliffHoney", name := "gives", desc := "(I)Z" } : Jvm.MethodName)) ∈ lw_all := lw_g (lw_at lw_m5 204 rfl) rfl
theorem q1262 : (Jvm.Cond.code ({ cls := "CliffHoney", name := "gives", desc := "(I)Z" } : Jvm.MethodName) prog_1_method_47_code (2 : Nat) (Option.some Jvm.ClassFile.FieldType.boolean)) ∈ lw_all := lw_g (lw_at lw_m5 205 rfl) rfl
theorem q1264 : (Jvm.Cond.instanceMethod ({ cls := "CliffHoney", name := "whoIs", desc := "(II)I" } : Jvm.MethodName)) ∈ lw_all := lw_g (lw_at lw_m5 207 rfl) rfl
theorem q1265 : (Jvm.Cond.selects "CliffHoney" ({ cls := "CliffHoney", name := "whoIs", desc := "(II)I" } : Jvm.MethodName) ({ cls := "CliffHoney", name := "whoIs", desc := "(II)I" } : Jvm.MethodName)) ∈ lw_all := lw_g (lw_at lw_m5 208 rfl) rfl
theorem q1266 : (Jvm.Cond.code ({ cls := "CliffHoney", name := "whoIs", desc := "(II)I" } : Jvm.MethodName) prog_1_method_48_code (4 : Nat) (Option.some Jvm.ClassFile.FieldType.int)) ∈ lw_all := lw_g (lw_at lw_m5 209 rfl) rfl
theorem q1268 : (Jvm.Cond.instanceMethod ({ cls := "CliffHoney", name := "cut", desc := "(IIII)I" } : Jvm.MethodName)) ∈ lw_all := lw_g (lw_at lw_m5 211 rfl) rfl
theorem q1269 : (Jvm.Cond.selects "CliffHoney" ({ cls := "CliffHoney", name := "cut", desc := "(IIII)I" } : Jvm.MethodName) ({ cls := "CliffHoney", name := "cut", desc := "(IIII)I" } : Jvm.MethodName)) ∈ lw_all := lw_g (lw_at lw_m5 212 rfl) rfl
theorem q1270 : (Jvm.Cond.code ({ cls := "CliffHoney", name := "cut", desc := "(IIII)I" } : Jvm.MethodName) prog_1_method_51_code (10 : Nat) (Option.some Jvm.ClassFile.FieldType.int)) ∈ lw_all := lw_g (lw_at lw_m5 213 rfl) rfl
theorem q1271 : (Jvm.Cond.methodLink "CliffHoney" (418 : Nat) ({ cls := "CliffHoney$Ledge", name := "isCut", desc := "(I)J" } : Jvm.MethodName)) ∈ lw_all := lw_g (lw_at lw_m5 214 rfl) rfl
theorem q1275 : (Jvm.Cond.classLink "CliffHoney" (421 : Nat) "CliffHoney$Cut") ∈ lw_all := lw_g (lw_at lw_m5 218 rfl) rfl
theorem q1277 : (Jvm.Cond.methodLink "CliffHoney" (423 : Nat) ({ cls := "CliffHoney$Cut", name := "<init>", desc := "(LCliffHoney;IIJII)V" } : Jvm.MethodName)) ∈ lw_all := lw_g (lw_at lw_m5 220 rfl) rfl
theorem q1289 : (Jvm.Cond.fieldLinkNest "CliffHoney" (426 : Nat) "CliffHoney$Cut" "parts" "[I" "CliffHoney") ∈ lw_tbl := lw_at lw_m5 232 rfl
theorem q1298 : (Jvm.Cond.fieldLink "CliffHoney" (433 : Nat) "CliffHoney$Lot" "units" "I") ∈ lw_all := lw_g (lw_at lw_m6 1 rfl) rfl
theorem q1302 : (Jvm.Cond.fieldLink "CliffHoney" (449 : Nat) "CliffHoney$Lot" "date" "I") ∈ lw_all := lw_g (lw_at lw_m6 5 rfl) rfl
theorem q1306 : (Jvm.Cond.fieldLink "CliffHoney" (436 : Nat) "CliffHoney$Lot" "low" "I") ∈ lw_all := lw_g (lw_at lw_m6 9 rfl) rfl
theorem q1310 : (Jvm.Cond.fieldLink "CliffHoney" (439 : Nat) "CliffHoney$Lot" "high" "I") ∈ lw_all := lw_g (lw_at lw_m6 13 rfl) rfl
theorem q1312 : (Jvm.Cond.fieldLink "CliffHoney" (271 : Nat) "CliffHoney$Lot" "isThere" "Z") ∈ lw_all := lw_g (lw_at lw_m6 15 rfl) rfl
theorem q1335 : (Jvm.Cond.methodLink "CliffHoney" (429 : Nat) ({ cls := "CliffHoney", name := "comes", desc := "(LCliffHoney$Lot;)I" } : Jvm.MethodName)) ∈ lw_all := lw_g (lw_at lw_m6 38 rfl) rfl
theorem q1336 : (Jvm.Cond.privateMethod ({ cls := "CliffHoney", name := "comes", desc := "(LCliffHoney$Lot;)I" } : Jvm.MethodName)) ∈ lw_tbl := lw_at lw_m6 39 rfl
theorem q1337 : (Jvm.Cond.instanceMethod ({ cls := "CliffHoney", name := "comes", desc := "(LCliffHoney$Lot;)I" } : Jvm.MethodName)) ∈ lw_all := lw_g (lw_at lw_m6 40 rfl) rfl
theorem q1338 : (Jvm.Cond.code ({ cls := "CliffHoney", name := "comes", desc := "(LCliffHoney$Lot;)I" } : Jvm.MethodName) prog_1_method_49_code (2 : Nat) (Option.some Jvm.ClassFile.FieldType.int)) ∈ lw_all := lw_g (lw_at lw_m6 41 rfl) rfl
theorem q1340 : (Jvm.Cond.instanceMethod ({ cls := "CliffHoney", name := "lot", desc := "(II)I" } : Jvm.MethodName)) ∈ lw_all := lw_g (lw_at lw_m6 43 rfl) rfl
theorem q1341 : (Jvm.Cond.selects "CliffHoney" ({ cls := "CliffHoney", name := "lot", desc := "(II)I" } : Jvm.MethodName) ({ cls := "CliffHoney", name := "lot", desc := "(II)I" } : Jvm.MethodName)) ∈ lw_all := lw_g (lw_at lw_m6 44 rfl) rfl
theorem q1342 : (Jvm.Cond.code ({ cls := "CliffHoney", name := "lot", desc := "(II)I" } : Jvm.MethodName) prog_1_method_52_code (4 : Nat) (Option.some Jvm.ClassFile.FieldType.int)) ∈ lw_all := lw_g (lw_at lw_m6 45 rfl) rfl
theorem q1343 : (Jvm.Cond.methodLink "CliffHoney" (442 : Nat) ({ cls := "CliffHoney$Lot", name := "cutter", desc := "()I" } : Jvm.MethodName)) ∈ lw_all := lw_g (lw_at lw_m6 46 rfl) rfl
theorem q1351 : (Jvm.Cond.methodLink "CliffHoney" (444 : Nat) ({ cls := "CliffHoney$Lot", name := "rope", desc := "()I" } : Jvm.MethodName)) ∈ lw_all := lw_g (lw_at lw_m6 54 rfl) rfl
theorem q1359 : (Jvm.Cond.methodLink "CliffHoney" (446 : Nat) ({ cls := "CliffHoney$Lot", name := "set", desc := "()I" } : Jvm.MethodName)) ∈ lw_all := lw_g (lw_at lw_m6 62 rfl) rfl
theorem q1370 : (Jvm.Cond.instanceMethod ({ cls := "CliffHoney", name := "taste", desc := "(III)I" } : Jvm.MethodName)) ∈ lw_all := lw_g (lw_at lw_m6 73 rfl) rfl
theorem q1371 : (Jvm.Cond.selects "CliffHoney" ({ cls := "CliffHoney", name := "taste", desc := "(III)I" } : Jvm.MethodName) ({ cls := "CliffHoney", name := "taste", desc := "(III)I" } : Jvm.MethodName)) ∈ lw_all := lw_g (lw_at lw_m6 74 rfl) rfl
theorem q1372 : (Jvm.Cond.code ({ cls := "CliffHoney", name := "taste", desc := "(III)I" } : Jvm.MethodName) prog_1_method_53_code (5 : Nat) (Option.some Jvm.ClassFile.FieldType.int)) ∈ lw_all := lw_g (lw_at lw_m6 75 rfl) rfl
theorem q1373 : (Jvm.Cond.methodLink "CliffHoney" (450 : Nat) ({ cls := "CliffHoney", name := "isThere", desc := "(I)Z" } : Jvm.MethodName)) ∈ lw_all := lw_g (lw_at lw_m6 76 rfl) rfl
theorem q1374 : (Jvm.Cond.privateMethod ({ cls := "CliffHoney", name := "isThere", desc := "(I)Z" } : Jvm.MethodName)) ∈ lw_tbl := lw_at lw_m6 77 rfl
theorem q1375 : (Jvm.Cond.instanceMethod ({ cls := "CliffHoney", name := "isThere", desc := "(I)Z" } : Jvm.MethodName)) ∈ lw_all := lw_g (lw_at lw_m6 78 rfl) rfl
theorem q1376 : (Jvm.Cond.code ({ cls := "CliffHoney", name := "isThere", desc := "(I)Z" } : Jvm.MethodName) prog_1_method_50_code (2 : Nat) (Option.some Jvm.ClassFile.FieldType.boolean)) ∈ lw_all := lw_g (lw_at lw_m6 79 rfl) rfl
theorem q1378 : (Jvm.Cond.instanceMethod ({ cls := "CliffHoney", name := "mix", desc := "(II)I" } : Jvm.MethodName)) ∈ lw_all := lw_g (lw_at lw_m6 81 rfl) rfl
theorem q1379 : (Jvm.Cond.selects "CliffHoney" ({ cls := "CliffHoney", name := "mix", desc := "(II)I" } : Jvm.MethodName) ({ cls := "CliffHoney", name := "mix", desc := "(II)I" } : Jvm.MethodName)) ∈ lw_all := lw_g (lw_at lw_m6 82 rfl) rfl
theorem q1380 : (Jvm.Cond.code ({ cls := "CliffHoney", name := "mix", desc := "(II)I" } : Jvm.MethodName) prog_1_method_54_code (3 : Nat) (Option.some Jvm.ClassFile.FieldType.int)) ∈ lw_all := lw_g (lw_at lw_m6 83 rfl) rfl
theorem q1381 : (Jvm.Cond.classLink "CliffHoney" (452 : Nat) "CliffHoney$Mix") ∈ lw_all := lw_g (lw_at lw_m6 84 rfl) rfl
theorem q1383 : (Jvm.Cond.methodLink "CliffHoney" (454 : Nat) ({ cls := "CliffHoney$Mix", name := "<init>", desc := "(LCliffHoney;LCliffHoney$Lot;LCliffHoney$Lot;I)V" } : Jvm.MethodName)) ∈ lw_all := lw_g (lw_at lw_m6 86 rfl) rfl
theorem q1406 : (Jvm.Cond.instanceMethod ({ cls := "CliffHoney", name := "buyer", desc := "(IIII)I" } : Jvm.MethodName)) ∈ lw_all := lw_g (lw_at lw_m6 109 rfl) rfl
theorem q1407 : (Jvm.Cond.selects "CliffHoney" ({ cls := "CliffHoney", name := "buyer", desc := "(IIII)I" } : Jvm.MethodName) ({ cls := "CliffHoney", name := "buyer", desc := "(IIII)I" } : Jvm.MethodName)) ∈ lw_all := lw_g (lw_at lw_m6 110 rfl) rfl
theorem q1408 : (Jvm.Cond.code ({ cls := "CliffHoney", name := "buyer", desc := "(IIII)I" } : Jvm.MethodName) prog_1_method_55_code (5 : Nat) (Option.some Jvm.ClassFile.FieldType.int)) ∈ lw_all := lw_g (lw_at lw_m6 111 rfl) rfl
theorem q1409 : (Jvm.Cond.constant "CliffHoney" (457 : Nat) (99999 : Int32)) ∈ lw_all := lw_g (lw_at lw_m6 112 rfl) rfl
theorem q1411 : (Jvm.Cond.methodLink "CliffHoney" (461 : Nat) ({ cls := "CliffHoney$Buyer", name := "<init>", desc := "(IIII)V" } : Jvm.MethodName)) ∈ lw_all := lw_g (lw_at lw_m6 114 rfl) rfl
theorem q1418 : (Jvm.Cond.fieldLink "CliffHoney" (478 : Nat) "CliffHoney$Buyer" "price" "I") ∈ lw_all := lw_g (lw_at lw_m6 121 rfl) rfl
theorem q1420 : (Jvm.Cond.fieldLink "CliffHoney" (475 : Nat) "CliffHoney$Buyer" "takes" "I") ∈ lw_all := lw_g (lw_at lw_m6 123 rfl) rfl
theorem q1431 : (Jvm.Cond.instanceMethod ({ cls := "CliffHoney", name := "sale", desc := "(I)I" } : Jvm.MethodName)) ∈ lw_all := lw_g (lw_at lw_m6 134 rfl) rfl
theorem q1432 : (Jvm.Cond.selects "CliffHoney" ({ cls := "CliffHoney", name := "sale", desc := "(I)I" } : Jvm.MethodName) ({ cls := "CliffHoney", name := "sale", desc := "(I)I" } : Jvm.MethodName)) ∈ lw_all := lw_g (lw_at lw_m6 135 rfl) rfl
theorem q1433 : (Jvm.Cond.code ({ cls := "CliffHoney", name := "sale", desc := "(I)I" } : Jvm.MethodName) prog_1_method_58_code (3 : Nat) (Option.some Jvm.ClassFile.FieldType.int)) ∈ lw_all := lw_g (lw_at lw_m6 136 rfl) rfl
theorem q1434 : (Jvm.Cond.methodLink "CliffHoney" (484 : Nat) ({ cls := "CliffHoney", name := "findSale", desc := "()V" } : Jvm.MethodName)) ∈ lw_all := lw_g (lw_at lw_m6 137 rfl) rfl
theorem q1435 : (Jvm.Cond.privateMethod ({ cls := "CliffHoney", name := "findSale", desc := "()V" } : Jvm.MethodName)) ∈ lw_tbl := lw_at lw_m6 138 rfl
theorem q1436 : (Jvm.Cond.instanceMethod ({ cls := "CliffHoney", name := "findSale", desc := "()V" } : Jvm.MethodName)) ∈ lw_all := lw_g (lw_at lw_m6 139 rfl) rfl
theorem q1437 : (Jvm.Cond.code ({ cls := "CliffHoney", name := "findSale", desc := "()V" } : Jvm.MethodName) prog_1_method_57_code (2 : Nat) (Option.none : Option Jvm.ClassFile.FieldType)) ∈ lw_all := lw_g (lw_at lw_m6 140 rfl) rfl
theorem q1438 : (Jvm.Cond.methodLink "CliffHoney" (481 : Nat) ({ cls := "CliffHoney", name := "offers", desc := "(III)V" } : Jvm.MethodName)) ∈ lw_all := lw_g (lw_at lw_m6 141 rfl) rfl
theorem q1439 : (Jvm.Cond.privateMethod ({ cls := "CliffHoney", name := "offers", desc := "(III)V" } : Jvm.MethodName)) ∈ lw_tbl := lw_at lw_m6 142 rfl
theorem q1440 : (Jvm.Cond.instanceMethod ({ cls := "CliffHoney", name := "offers", desc := "(III)V" } : Jvm.MethodName)) ∈ lw_all := lw_g (lw_at lw_m6 143 rfl) rfl
theorem q1441 : (Jvm.Cond.code ({ cls := "CliffHoney", name := "offers", desc := "(III)V" } : Jvm.MethodName) prog_1_method_56_code (6 : Nat) (Option.none : Option Jvm.ClassFile.FieldType)) ∈ lw_all := lw_g (lw_at lw_m6 144 rfl) rfl
theorem q1442 : (Jvm.Cond.methodLink "CliffHoney" (471 : Nat) ({ cls := "CliffHoney$Buyer", name := "wants", desc := "(LCliffHoney$Lot;)Z" } : Jvm.MethodName)) ∈ lw_all := lw_g (lw_at lw_m6 145 rfl) rfl
theorem q1447 : (Jvm.Cond.instanceMethod ({ cls := "CliffHoney", name := "sell", desc := "()I" } : Jvm.MethodName)) ∈ lw_all := lw_g (lw_at lw_m6 150 rfl) rfl
theorem q1448 : (Jvm.Cond.selects "CliffHoney" ({ cls := "CliffHoney", name := "sell", desc := "()I" } : Jvm.MethodName) ({ cls := "CliffHoney", name := "sell", desc := "()I" } : Jvm.MethodName)) ∈ lw_all := lw_g (lw_at lw_m6 151 rfl) rfl
theorem q1449 : (Jvm.Cond.code ({ cls := "CliffHoney", name := "sell", desc := "()I" } : Jvm.MethodName) prog_1_method_59_code (3 : Nat) (Option.some Jvm.ClassFile.FieldType.int)) ∈ lw_all := lw_g (lw_at lw_m6 152 rfl) rfl
theorem q1450 : (Jvm.Cond.methodLink "CliffHoney" (487 : Nat) ({ cls := "CliffHoney$Lot", name := "pays", desc := "(I)V" } : Jvm.MethodName)) ∈ lw_all := lw_g (lw_at lw_m6 153 rfl) rfl
theorem q1469 : (Jvm.Cond.privateMethod ({ cls := "CliffHoney", name := "whoseOf", desc := "(III)I" } : Jvm.MethodName)) ∈ lw_tbl := lw_at lw_m6 172 rfl
theorem q1470 : (Jvm.Cond.instanceMethod ({ cls := "CliffHoney", name := "whoseOf", desc := "(III)I" } : Jvm.MethodName)) ∈ lw_all := lw_g (lw_at lw_m6 173 rfl) rfl
theorem q1471 : (Jvm.Cond.code ({ cls := "CliffHoney", name := "whoseOf", desc := "(III)I" } : Jvm.MethodName) prog_1_method_62_code (6 : Nat) (Option.some Jvm.ClassFile.FieldType.int)) ∈ lw_all := lw_g (lw_at lw_m6 174 rfl) rfl
theorem q1477 : (Jvm.Cond.instanceMethod ({ cls := "CliffHoney", name := "village", desc := "(I)I" } : Jvm.MethodName)) ∈ lw_all := lw_g (lw_at lw_m6 180 rfl) rfl
theorem q1478 : (Jvm.Cond.selects "CliffHoney" ({ cls := "CliffHoney", name := "village", desc := "(I)I" } : Jvm.MethodName) ({ cls := "CliffHoney", name := "village", desc := "(I)I" } : Jvm.MethodName)) ∈ lw_all := lw_g (lw_at lw_m6 181 rfl) rfl
theorem q1479 : (Jvm.Cond.code ({ cls := "CliffHoney", name := "village", desc := "(I)I" } : Jvm.MethodName) prog_1_method_60_code (2 : Nat) (Option.some Jvm.ClassFile.FieldType.int)) ∈ lw_all := lw_g (lw_at lw_m6 182 rfl) rfl
theorem q1481 : (Jvm.Cond.instanceMethod ({ cls := "CliffHoney", name := "claim", desc := "(III)I" } : Jvm.MethodName)) ∈ lw_all := lw_g (lw_at lw_m6 184 rfl) rfl
theorem q1482 : (Jvm.Cond.selects "CliffHoney" ({ cls := "CliffHoney", name := "claim", desc := "(III)I" } : Jvm.MethodName) ({ cls := "CliffHoney", name := "claim", desc := "(III)I" } : Jvm.MethodName)) ∈ lw_all := lw_g (lw_at lw_m6 185 rfl) rfl
theorem q1483 : (Jvm.Cond.code ({ cls := "CliffHoney", name := "claim", desc := "(III)I" } : Jvm.MethodName) prog_1_method_61_code (4 : Nat) (Option.some Jvm.ClassFile.FieldType.int)) ∈ lw_all := lw_g (lw_at lw_m6 186 rfl) rfl
theorem q1485 : (Jvm.Cond.instanceMethod ({ cls := "CliffHoney", name := "whose", desc := "(III)I" } : Jvm.MethodName)) ∈ lw_all := lw_g (lw_at lw_m6 188 rfl) rfl
theorem q1486 : (Jvm.Cond.selects "CliffHoney" ({ cls := "CliffHoney", name := "whose", desc := "(III)I" } : Jvm.MethodName) ({ cls := "CliffHoney", name := "whose", desc := "(III)I" } : Jvm.MethodName)) ∈ lw_all := lw_g (lw_at lw_m6 189 rfl) rfl
theorem q1487 : (Jvm.Cond.code ({ cls := "CliffHoney", name := "whose", desc := "(III)I" } : Jvm.MethodName) prog_1_method_63_code (4 : Nat) (Option.some Jvm.ClassFile.FieldType.int)) ∈ lw_all := lw_g (lw_at lw_m6 190 rfl) rfl
theorem q1488 : (Jvm.Cond.methodLink "CliffHoney" (493 : Nat) ({ cls := "CliffHoney", name := "whoseOf", desc := "(III)I" } : Jvm.MethodName)) ∈ lw_all := lw_g (lw_at lw_m6 191 rfl) rfl
theorem q1490 : (Jvm.Cond.instanceMethod ({ cls := "CliffHoney", name := "count", desc := "(III)I" } : Jvm.MethodName)) ∈ lw_all := lw_g (lw_at lw_m6 193 rfl) rfl
theorem q1491 : (Jvm.Cond.selects "CliffHoney" ({ cls := "CliffHoney", name := "count", desc := "(III)I" } : Jvm.MethodName) ({ cls := "CliffHoney", name := "count", desc := "(III)I" } : Jvm.MethodName)) ∈ lw_all := lw_g (lw_at lw_m6 194 rfl) rfl
theorem q1492 : (Jvm.Cond.code ({ cls := "CliffHoney", name := "count", desc := "(III)I" } : Jvm.MethodName) prog_1_method_64_code (6 : Nat) (Option.some Jvm.ClassFile.FieldType.int)) ∈ lw_all := lw_g (lw_at lw_m6 195 rfl) rfl
theorem q1494 : (Jvm.Cond.instanceMethod ({ cls := "CliffHoney", name := "guess", desc := "(II)I" } : Jvm.MethodName)) ∈ lw_all := lw_g (lw_at lw_m6 197 rfl) rfl
theorem q1495 : (Jvm.Cond.selects "CliffHoney" ({ cls := "CliffHoney", name := "guess", desc := "(II)I" } : Jvm.MethodName) ({ cls := "CliffHoney", name := "guess", desc := "(II)I" } : Jvm.MethodName)) ∈ lw_all := lw_g (lw_at lw_m6 198 rfl) rfl
theorem q1496 : (Jvm.Cond.code ({ cls := "CliffHoney", name := "guess", desc := "(II)I" } : Jvm.MethodName) prog_1_method_65_code (3 : Nat) (Option.some Jvm.ClassFile.FieldType.int)) ∈ lw_all := lw_g (lw_at lw_m6 199 rfl) rfl
theorem q1498 : (Jvm.Cond.instanceMethod ({ cls := "CliffHoney", name := "foreseen", desc := "(III)I" } : Jvm.MethodName)) ∈ lw_all := lw_g (lw_at lw_m6 201 rfl) rfl
theorem q1499 : (Jvm.Cond.selects "CliffHoney" ({ cls := "CliffHoney", name := "foreseen", desc := "(III)I" } : Jvm.MethodName) ({ cls := "CliffHoney", name := "foreseen", desc := "(III)I" } : Jvm.MethodName)) ∈ lw_all := lw_g (lw_at lw_m6 202 rfl) rfl
theorem q1500 : (Jvm.Cond.code ({ cls := "CliffHoney", name := "foreseen", desc := "(III)I" } : Jvm.MethodName) prog_1_method_66_code (11 : Nat) (Option.some Jvm.ClassFile.FieldType.int)) ∈ lw_all := lw_g (lw_at lw_m6 203 rfl) rfl
theorem q1501 : (Jvm.Cond.methodLink "CliffHoney" (498 : Nat) ({ cls := "CliffHoney$Ledge", name := "become", desc := "(LCliffHoney$Ledge;)V" } : Jvm.MethodName)) ∈ lw_all := lw_g (lw_at lw_m6 204 rfl) rfl
theorem in_X0 : ∀ w ∈ wsX00, w ∈ lw_all := lw_in wsX00 [367, 369, 371, 373, 375, 377, 379, 381, 383, 385, 387, 389, 391, 393, 395, 397, 399, 401, 403, 405, 407, 409, 411, 413, 415, 417, 419, 421, 423, 425, 427, 429, 431, 433, 435, 437, 439, 441, 443, 445, 447, 449, 451, 453, 455, 457, 459, 461, 463, 465, 467] (by decide +kernel) (by decide +kernel)
