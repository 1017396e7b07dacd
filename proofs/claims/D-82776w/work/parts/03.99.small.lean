/-! CliffHoney$Fault -/
set_option maxRecDepth 100000
def RX1 : String := "CliffHoney$Fault"
def TX1 : u_T := fun k => match k with
  | 0 => ("java/lang/Throwable", "cause", "Ljava/lang/Throwable;", false)
  | 1 => ("java/lang/Throwable", "stackTrace", "[Ljava/lang/StackTraceElement;", false)
  | 2 => ("java/lang/Throwable", "suppressedExceptions", "Ljava/util/List;", false)
  | 3 => ("java/lang/Throwable", "detailMessage", "Ljava/lang/String;", false)
  | 4 => ("java/lang/Throwable", "backtrace", "Ljava/lang/Object;", false)
  | 5 => ("java/lang/Throwable", "depth", "I", false)
  | 6 => ("CliffHoney$Fault", "kind", "I", false)
  | _ => ("CliffHoney$Fault", "place", "I", false)
def tyX1 : Nat → FieldType := fun k => match k with
  | 0 => .object "java/lang/Throwable"
  | 1 => .array (.object "java/lang/StackTraceElement")
  | 2 => .object "java/util/List"
  | 3 => .object "java/lang/String"
  | 4 => .object "java/lang/Object"
  | 5 => .int
  | 6 => .int
  | _ => .int
abbrev wsX10 : List Cond := u_ws RX1 TX1 8
theorem nmX1 : ∀ a, a < 8 → ∀ b, b < 8 → a ≠ b → (TX1 a).2.1 ≠ (TX1 b).2.1 := by decide +kernel
theorem tyX1_ok : ∀ k, k < 8 → parseFieldDescriptor (TX1 k).2.2.1 = some (tyX1 k) := by decide +kernel
abbrev cX1_init : ByteArray := prog_7_method_1_code
def yX1_init : MethodName := ⟨RX1, "<init>", "()V"⟩
def dkwX1_init_0 : List UInt8 := [42, 1, 1, 3, 3, 183, 0, 1, 177]
abbrev dktX1_init_0 : List UInt8 := dkwX1_init_0 ++ []
theorem dksX1_init_0 : cX1_init.data.toList.drop 0 = dktX1_init_0 := by decide +kernel
theorem dX1_init_0 : decode cX1_init 0 = .ok (.aload_n 0, 1) := dk_42 (dk_at dksX1_init_0 0 rfl rfl)
theorem dX1_init_1 : decode cX1_init 1 = .ok (.aconst_null, 1) := dk_1 (dk_at dksX1_init_0 1 rfl rfl)
theorem dX1_init_2 : decode cX1_init 2 = .ok (.aconst_null, 1) := dk_1 (dk_at dksX1_init_0 2 rfl rfl)
theorem dX1_init_3 : decode cX1_init 3 = .ok (.iconst 0, 1) := dk_3 (dk_at dksX1_init_0 3 rfl rfl)
theorem dX1_init_4 : decode cX1_init 4 = .ok (.iconst 0, 1) := dk_3 (dk_at dksX1_init_0 4 rfl rfl)
theorem dX1_init_5 : decode cX1_init 5 = .ok (.invokespecial 1, 3) := dk_183 0 1 (dk_at dksX1_init_0 5 rfl rfl)
theorem dX1_init_8 : decode cX1_init 8 = .ok (.return_, 1) := dk_177 (dk_at dksX1_init_0 8 rfl rfl)
theorem q101 : (Jvm.Cond.initialized "CliffHoney$Fault") ∈ lw_all := lw_g (lw_at lw_m1 4 rfl) rfl
theorem q144 : (Jvm.Cond.instantiable "CliffHoney$Fault" (8 : Nat)) ∈ lw_all := lw_g (lw_at lw_m1 47 rfl) rfl
theorem q145 : (Jvm.Cond.castable "CliffHoney$Fault" "CliffHoney$Fault") ∈ lw_tbl := lw_at lw_m1 48 rfl
theorem q150 : (Jvm.Cond.selects "CliffHoney$Fault" ({ cls := "java/lang/Throwable", name := "fillInStackTrace", desc := "(I)Ljava/lang/Throwable;" } : Jvm.MethodName) ({ cls := "java/lang/Throwable", name := "fillInStackTrace", desc := "(I)Ljava/lang/Throwable;" } : Jvm.MethodName)) ∈ lw_all := lw_g (lw_at lw_m1 53 rfl) rfl
theorem q151 : (Jvm.Cond.selects "CliffHoney$Fault" ({ cls := "java/lang/Throwable", name := "fillInStackTrace", desc := "()Ljava/lang/Throwable;" } : Jvm.MethodName) ({ cls := "java/lang/Throwable", name := "fillInStackTrace", desc := "()Ljava/lang/Throwable;" } : Jvm.MethodName)) ∈ lw_all := lw_g (lw_at lw_m1 54 rfl) rfl
theorem q152 : (Jvm.Cond.lays "CliffHoney$Fault" "java/lang/Throwable" "cause" "Ljava/lang/Throwable;") ∈ lw_all := lw_g (lw_at lw_m1 55 rfl) rfl
theorem q154 : (Jvm.Cond.lays "CliffHoney$Fault" "java/lang/Throwable" "stackTrace" "[Ljava/lang/StackTraceElement;") ∈ lw_all := lw_g (lw_at lw_m1 57 rfl) rfl
theorem q156 : (Jvm.Cond.lays "CliffHoney$Fault" "java/lang/Throwable" "suppressedExceptions" "Ljava/util/List;") ∈ lw_all := lw_g (lw_at lw_m1 59 rfl) rfl
theorem q158 : (Jvm.Cond.lays "CliffHoney$Fault" "java/lang/Throwable" "detailMessage" "Ljava/lang/String;") ∈ lw_all := lw_g (lw_at lw_m1 61 rfl) rfl
theorem q160 : (Jvm.Cond.lays "CliffHoney$Fault" "java/lang/Throwable" "backtrace" "Ljava/lang/Object;") ∈ lw_all := lw_g (lw_at lw_m1 63 rfl) rfl
theorem q181 : (Jvm.Cond.instanceMethod ({ cls := "CliffHoney$Fault", name := "<init>", desc := "()V" } : Jvm.MethodName)) ∈ lw_all := lw_g (lw_at lw_m1 84 rfl) rfl
theorem q182 : (Jvm.Cond.code ({ cls := "CliffHoney$Fault", name := "<init>", desc := "()V" } : Jvm.MethodName) prog_7_method_1_code (1 : Nat) (Option.none : Option Jvm.ClassFile.FieldType)) ∈ lw_all := lw_g (lw_at lw_m1 85 rfl) rfl
theorem q183 : (Jvm.Cond.methodLink "CliffHoney$Fault" (1 : Nat) ({ cls := "java/lang/Exception", name := "<init>", desc := "(Ljava/lang/String;Ljava/lang/Throwable;ZZ)V" } : Jvm.MethodName)) ∈ lw_all := lw_g (lw_at lw_m1 86 rfl) rfl
theorem q196 : (Jvm.Cond.lays "CliffHoney$Fault" "CliffHoney$Fault" "kind" "I") ∈ lw_all := lw_g (lw_at lw_m1 99 rfl) rfl
theorem q197 : (Jvm.Cond.soleField "CliffHoney$Fault" "kind") ∈ lw_all := lw_g (lw_at lw_m1 100 rfl) rfl
theorem q198 : (Jvm.Cond.lays "CliffHoney$Fault" "CliffHoney$Fault" "place" "I") ∈ lw_all := lw_g (lw_at lw_m1 101 rfl) rfl
theorem q199 : (Jvm.Cond.soleField "CliffHoney$Fault" "place") ∈ lw_all := lw_g (lw_at lw_m1 102 rfl) rfl
theorem q204 : (Jvm.Cond.lays "CliffHoney$Fault" "java/lang/Throwable" "depth" "I") ∈ lw_all := lw_g (lw_at lw_m1 107 rfl) rfl
theorem q207 : (Jvm.Cond.superclass "CliffHoney$Fault" "java/lang/Exception") ∈ lw_all := lw_g (lw_at lw_m1 110 rfl) rfl
theorem in_X1 : ∀ w ∈ wsX10, w ∈ lw_all := lw_in wsX10 [152, 154, 156, 158, 160, 204, 196, 198] (by decide +kernel) (by decide +kernel)

/-! CliffHoney$Reader -/
set_option maxRecDepth 100000
def RX2 : String := "CliffHoney$Reader"
def TX2 : u_T := fun k => match k with
  | 0 => ("CliffHoney$Reader", "at", "I", false)
  | 1 => ("CliffHoney$Reader", "from", "I", false)
  | 2 => ("CliffHoney$Reader", "token", "I", false)
  | 3 => ("CliffHoney$Reader", "value", "I", false)
  | 4 => ("CliffHoney$Reader", "open", "I", false)
  | 5 => ("CliffHoney$Reader", "told", "I", false)
  | 6 => ("CliffHoney$Reader", "row", "[LCliffHoney$Line;", false)
  | _ => ("CliffHoney$Reader", "this$0", "LCliffHoney;", true)
def tyX2 : Nat → FieldType := fun k => match k with
  | 0 => .int
  | 1 => .int
  | 2 => .int
  | 3 => .int
  | 4 => .int
  | 5 => .int
  | 6 => .array (.object "CliffHoney$Line")
  | _ => .object "CliffHoney"
abbrev wsX20 : List Cond := u_ws RX2 TX2 8
theorem nmX2 : ∀ a, a < 8 → ∀ b, b < 8 → a ≠ b → (TX2 a).2.1 ≠ (TX2 b).2.1 := by decide +kernel
theorem tyX2_ok : ∀ k, k < 8 → parseFieldDescriptor (TX2 k).2.2.1 = some (tyX2 k) := by decide +kernel
abbrev cX2_init : ByteArray := prog_18_method_1_code
def yX2_init : MethodName := ⟨RX2, "<init>", "(LCliffHoney;)V"⟩
def dkwX2_init_0 : List UInt8 := [42, 43, 181, 0, 3, 42, 183, 0, 9, 177]
abbrev dktX2_init_0 : List UInt8 := dkwX2_init_0 ++ []
theorem dksX2_init_0 : cX2_init.data.toList.drop 0 = dktX2_init_0 := by decide +kernel
theorem dX2_init_0 : decode cX2_init 0 = .ok (.aload_n 0, 1) := dk_42 (dk_at dksX2_init_0 0 rfl rfl)
theorem dX2_init_1 : decode cX2_init 1 = .ok (.aload_n 1, 1) := dk_43 (dk_at dksX2_init_0 1 rfl rfl)
theorem dX2_init_2 : decode cX2_init 2 = .ok (.putfield 3, 3) := dk_181 0 3 (dk_at dksX2_init_0 2 rfl rfl)
theorem dX2_init_5 : decode cX2_init 5 = .ok (.aload_n 0, 1) := dk_42 (dk_at dksX2_init_0 5 rfl rfl)
theorem dX2_init_6 : decode cX2_init 6 = .ok (.invokespecial 9, 3) := dk_183 0 9 (dk_at dksX2_init_0 6 rfl rfl)
theorem dX2_init_9 : decode cX2_init 9 = .ok (.return_, 1) := dk_177 (dk_at dksX2_init_0 9 rfl rfl)
abbrev cX2_read : ByteArray := prog_18_method_13_code
def yX2_read : MethodName := ⟨RX2, "read", "()V"⟩
def dkwX2_read_5 : List UInt8 := [42, 182, 0, 96, 167, 255, 161, 42, 180, 0, 33, 153, 0, 8, 42, 182, 0, 88, 191, 177]
abbrev dktX2_read_5 : List UInt8 := dkwX2_read_5 ++ []
def dkwX2_read_4 : List UInt8 := [42, 89, 180, 0, 102, 4, 96, 181, 0, 102, 42, 16, 59, 182, 0, 115, 154, 0, 8, 42, 182, 0, 88, 191]
abbrev dktX2_read_4 : List UInt8 := dkwX2_read_4 ++ dktX2_read_5
def dkwX2_read_3 : List UInt8 := [191, 42, 180, 0, 57, 60, 42, 182, 0, 96, 42, 180, 0, 107, 42, 180, 0, 102, 42, 27, 182, 0, 111, 83]
abbrev dktX2_read_3 : List UInt8 := dkwX2_read_3 ++ dktX2_read_4
def dkwX2_read_2 : List UInt8 := [153, 0, 79, 42, 180, 0, 102, 16, 20, 160, 0, 16, 42, 180, 0, 3, 6, 42, 180, 0, 30, 182, 0, 84]
abbrev dktX2_read_2 : List UInt8 := dkwX2_read_2 ++ dktX2_read_3
def dkwX2_read_1 : List UInt8 := [42, 182, 0, 96, 42, 180, 0, 33, 5, 160, 0, 93, 42, 180, 0, 57, 16, 12, 16, 16, 184, 0, 92]
abbrev dktX2_read_1 : List UInt8 := dkwX2_read_1 ++ dktX2_read_2
def dkwX2_read_0 : List UInt8 := [42, 3, 181, 0, 15, 42, 3, 181, 0, 102, 42, 3, 181, 0, 99, 42, 16, 20, 189, 0, 105, 181, 0, 107]
abbrev dktX2_read_0 : List UInt8 := dkwX2_read_0 ++ dktX2_read_1
theorem dksX2_read_0 : cX2_read.data.toList.drop 0 = dktX2_read_0 := by decide +kernel
theorem dksX2_read_1 : cX2_read.data.toList.drop 24 = dktX2_read_1 := dk_seg dksX2_read_0 24 rfl rfl
theorem dksX2_read_2 : cX2_read.data.toList.drop 47 = dktX2_read_2 := dk_seg dksX2_read_1 23 rfl rfl
theorem dksX2_read_3 : cX2_read.data.toList.drop 71 = dktX2_read_3 := dk_seg dksX2_read_2 24 rfl rfl
theorem dksX2_read_4 : cX2_read.data.toList.drop 95 = dktX2_read_4 := dk_seg dksX2_read_3 24 rfl rfl
theorem dksX2_read_5 : cX2_read.data.toList.drop 119 = dktX2_read_5 := dk_seg dksX2_read_4 24 rfl rfl
theorem dX2_read_0 : decode cX2_read 0 = .ok (.aload_n 0, 1) := dk_42 (dk_at dksX2_read_0 0 rfl rfl)
theorem dX2_read_1 : decode cX2_read 1 = .ok (.iconst 0, 1) := dk_3 (dk_at dksX2_read_0 1 rfl rfl)
theorem dX2_read_2 : decode cX2_read 2 = .ok (.putfield 15, 3) := dk_181 0 15 (dk_at dksX2_read_0 2 rfl rfl)
theorem dX2_read_5 : decode cX2_read 5 = .ok (.aload_n 0, 1) := dk_42 (dk_at dksX2_read_0 5 rfl rfl)
theorem dX2_read_6 : decode cX2_read 6 = .ok (.iconst 0, 1) := dk_3 (dk_at dksX2_read_0 6 rfl rfl)
theorem dX2_read_7 : decode cX2_read 7 = .ok (.putfield 102, 3) := dk_181 0 102 (dk_at dksX2_read_0 7 rfl rfl)
theorem dX2_read_10 : decode cX2_read 10 = .ok (.aload_n 0, 1) := dk_42 (dk_at dksX2_read_0 10 rfl rfl)
theorem dX2_read_11 : decode cX2_read 11 = .ok (.iconst 0, 1) := dk_3 (dk_at dksX2_read_0 11 rfl rfl)
theorem dX2_read_12 : decode cX2_read 12 = .ok (.putfield 99, 3) := dk_181 0 99 (dk_at dksX2_read_0 12 rfl rfl)
theorem dX2_read_15 : decode cX2_read 15 = .ok (.aload_n 0, 1) := dk_42 (dk_at dksX2_read_0 15 rfl rfl)
theorem dX2_read_16 : decode cX2_read 16 = .ok (.bipush 20, 2) := dk_16 20 (dk_at dksX2_read_0 16 rfl rfl)
theorem dX2_read_18 : decode cX2_read 18 = .ok (.anewarray 105, 3) := dk_189 0 105 (dk_at dksX2_read_0 18 rfl rfl)
theorem dX2_read_21 : decode cX2_read 21 = .ok (.putfield 107, 3) := dk_181 0 107 (dk_at dksX2_read_0 21 rfl rfl)
theorem dX2_read_24 : decode cX2_read 24 = .ok (.aload_n 0, 1) := dk_42 (dk_at dksX2_read_1 0 rfl rfl)
theorem dX2_read_25 : decode cX2_read 25 = .ok (.invokevirtual 96, 3) := dk_182 0 96 (dk_at dksX2_read_1 1 rfl rfl)
theorem dX2_read_28 : decode cX2_read 28 = .ok (.aload_n 0, 1) := dk_42 (dk_at dksX2_read_1 4 rfl rfl)
theorem dX2_read_29 : decode cX2_read 29 = .ok (.getfield 33, 3) := dk_180 0 33 (dk_at dksX2_read_1 5 rfl rfl)
theorem dX2_read_32 : decode cX2_read 32 = .ok (.iconst 2, 1) := dk_5 (dk_at dksX2_read_1 8 rfl rfl)
theorem dX2_read_33 : decode cX2_read 33 = .ok (.if_icmp .ne 93, 3) := dk_160 0 93 (dk_at dksX2_read_1 9 rfl rfl)
theorem dX2_read_36 : decode cX2_read 36 = .ok (.aload_n 0, 1) := dk_42 (dk_at dksX2_read_1 12 rfl rfl)
theorem dX2_read_37 : decode cX2_read 37 = .ok (.getfield 57, 3) := dk_180 0 57 (dk_at dksX2_read_1 13 rfl rfl)
theorem dX2_read_40 : decode cX2_read 40 = .ok (.bipush 12, 2) := dk_16 12 (dk_at dksX2_read_1 16 rfl rfl)
theorem dX2_read_42 : decode cX2_read 42 = .ok (.bipush 16, 2) := dk_16 16 (dk_at dksX2_read_1 18 rfl rfl)
theorem dX2_read_44 : decode cX2_read 44 = .ok (.invokestatic 92, 3) := dk_184 0 92 (dk_at dksX2_read_1 20 rfl rfl)
theorem dX2_read_47 : decode cX2_read 47 = .ok (.ifCond .eq 79, 3) := dk_153 0 79 (dk_at dksX2_read_2 0 rfl rfl)
theorem dX2_read_50 : decode cX2_read 50 = .ok (.aload_n 0, 1) := dk_42 (dk_at dksX2_read_2 3 rfl rfl)
theorem dX2_read_51 : decode cX2_read 51 = .ok (.getfield 102, 3) := dk_180 0 102 (dk_at dksX2_read_2 4 rfl rfl)
theorem dX2_read_54 : decode cX2_read 54 = .ok (.bipush 20, 2) := dk_16 20 (dk_at dksX2_read_2 7 rfl rfl)
theorem dX2_read_56 : decode cX2_read 56 = .ok (.if_icmp .ne 16, 3) := dk_160 0 16 (dk_at dksX2_read_2 9 rfl rfl)
theorem dX2_read_59 : decode cX2_read 59 = .ok (.aload_n 0, 1) := dk_42 (dk_at dksX2_read_2 12 rfl rfl)
theorem dX2_read_60 : decode cX2_read 60 = .ok (.getfield 3, 3) := dk_180 0 3 (dk_at dksX2_read_2 13 rfl rfl)
theorem dX2_read_63 : decode cX2_read 63 = .ok (.iconst 3, 1) := dk_6 (dk_at dksX2_read_2 16 rfl rfl)
theorem dX2_read_64 : decode cX2_read 64 = .ok (.aload_n 0, 1) := dk_42 (dk_at dksX2_read_2 17 rfl rfl)
theorem dX2_read_65 : decode cX2_read 65 = .ok (.getfield 30, 3) := dk_180 0 30 (dk_at dksX2_read_2 18 rfl rfl)
theorem dX2_read_68 : decode cX2_read 68 = .ok (.invokevirtual 84, 3) := dk_182 0 84 (dk_at dksX2_read_2 21 rfl rfl)
theorem dX2_read_71 : decode cX2_read 71 = .ok (.athrow, 1) := dk_191 (dk_at dksX2_read_3 0 rfl rfl)
theorem dX2_read_72 : decode cX2_read 72 = .ok (.aload_n 0, 1) := dk_42 (dk_at dksX2_read_3 1 rfl rfl)
theorem dX2_read_73 : decode cX2_read 73 = .ok (.getfield 57, 3) := dk_180 0 57 (dk_at dksX2_read_3 2 rfl rfl)
theorem dX2_read_76 : decode cX2_read 76 = .ok (.istore_n 1, 1) := dk_60 (dk_at dksX2_read_3 5 rfl rfl)
theorem dX2_read_77 : decode cX2_read 77 = .ok (.aload_n 0, 1) := dk_42 (dk_at dksX2_read_3 6 rfl rfl)
theorem dX2_read_78 : decode cX2_read 78 = .ok (.invokevirtual 96, 3) := dk_182 0 96 (dk_at dksX2_read_3 7 rfl rfl)
theorem dX2_read_81 : decode cX2_read 81 = .ok (.aload_n 0, 1) := dk_42 (dk_at dksX2_read_3 10 rfl rfl)
theorem dX2_read_82 : decode cX2_read 82 = .ok (.getfield 107, 3) := dk_180 0 107 (dk_at dksX2_read_3 11 rfl rfl)
theorem dX2_read_85 : decode cX2_read 85 = .ok (.aload_n 0, 1) := dk_42 (dk_at dksX2_read_3 14 rfl rfl)
theorem dX2_read_86 : decode cX2_read 86 = .ok (.getfield 102, 3) := dk_180 0 102 (dk_at dksX2_read_3 15 rfl rfl)
theorem dX2_read_89 : decode cX2_read 89 = .ok (.aload_n 0, 1) := dk_42 (dk_at dksX2_read_3 18 rfl rfl)
theorem dX2_read_90 : decode cX2_read 90 = .ok (.iload_n 1, 1) := dk_27 (dk_at dksX2_read_3 19 rfl rfl)
theorem dX2_read_91 : decode cX2_read 91 = .ok (.invokevirtual 111, 3) := dk_182 0 111 (dk_at dksX2_read_3 20 rfl rfl)
theorem dX2_read_94 : decode cX2_read 94 = .ok (.aastore, 1) := dk_83 (dk_at dksX2_read_3 23 rfl rfl)
theorem dX2_read_95 : decode cX2_read 95 = .ok (.aload_n 0, 1) := dk_42 (dk_at dksX2_read_4 0 rfl rfl)
theorem dX2_read_96 : decode cX2_read 96 = .ok (.dup, 1) := dk_89 (dk_at dksX2_read_4 1 rfl rfl)
theorem dX2_read_97 : decode cX2_read 97 = .ok (.getfield 102, 3) := dk_180 0 102 (dk_at dksX2_read_4 2 rfl rfl)
theorem dX2_read_100 : decode cX2_read 100 = .ok (.iconst 1, 1) := dk_4 (dk_at dksX2_read_4 5 rfl rfl)
theorem dX2_read_101 : decode cX2_read 101 = .ok (.iadd, 1) := dk_96 (dk_at dksX2_read_4 6 rfl rfl)
theorem dX2_read_102 : decode cX2_read 102 = .ok (.putfield 102, 3) := dk_181 0 102 (dk_at dksX2_read_4 7 rfl rfl)
theorem dX2_read_105 : decode cX2_read 105 = .ok (.aload_n 0, 1) := dk_42 (dk_at dksX2_read_4 10 rfl rfl)
theorem dX2_read_106 : decode cX2_read 106 = .ok (.bipush 59, 2) := dk_16 59 (dk_at dksX2_read_4 11 rfl rfl)
theorem dX2_read_108 : decode cX2_read 108 = .ok (.invokevirtual 115, 3) := dk_182 0 115 (dk_at dksX2_read_4 13 rfl rfl)
theorem dX2_read_111 : decode cX2_read 111 = .ok (.ifCond .ne 8, 3) := dk_154 0 8 (dk_at dksX2_read_4 16 rfl rfl)
theorem dX2_read_114 : decode cX2_read 114 = .ok (.aload_n 0, 1) := dk_42 (dk_at dksX2_read_4 19 rfl rfl)
theorem dX2_read_115 : decode cX2_read 115 = .ok (.invokevirtual 88, 3) := dk_182 0 88 (dk_at dksX2_read_4 20 rfl rfl)
theorem dX2_read_118 : decode cX2_read 118 = .ok (.athrow, 1) := dk_191 (dk_at dksX2_read_4 23 rfl rfl)
theorem dX2_read_119 : decode cX2_read 119 = .ok (.aload_n 0, 1) := dk_42 (dk_at dksX2_read_5 0 rfl rfl)
theorem dX2_read_120 : decode cX2_read 120 = .ok (.invokevirtual 96, 3) := dk_182 0 96 (dk_at dksX2_read_5 1 rfl rfl)
theorem dX2_read_123 : decode cX2_read 123 = .ok (.goto (-95), 3) := dk_167 255 161 (dk_at dksX2_read_5 4 rfl rfl)
theorem dX2_read_126 : decode cX2_read 126 = .ok (.aload_n 0, 1) := dk_42 (dk_at dksX2_read_5 7 rfl rfl)
theorem dX2_read_127 : decode cX2_read 127 = .ok (.getfield 33, 3) := dk_180 0 33 (dk_at dksX2_read_5 8 rfl rfl)
theorem dX2_read_130 : decode cX2_read 130 = .ok (.ifCond .eq 8, 3) := dk_153 0 8 (dk_at dksX2_read_5 11 rfl rfl)
theorem dX2_read_133 : decode cX2_read 133 = .ok (.aload_n 0, 1) := dk_42 (dk_at dksX2_read_5 14 rfl rfl)
theorem dX2_read_134 : decode cX2_read 134 = .ok (.invokevirtual 88, 3) := dk_182 0 88 (dk_at dksX2_read_5 15 rfl rfl)
theorem dX2_read_137 : decode cX2_read 137 = .ok (.athrow, 1) := dk_191 (dk_at dksX2_read_5 18 rfl rfl)
theorem dX2_read_138 : decode cX2_read 138 = .ok (.return_, 1) := dk_177 (dk_at dksX2_read_5 19 rfl rfl)
abbrev cX2_next : ByteArray := prog_18_method_5_code
def yX2_next : MethodName := ⟨RX2, "next", "()V"⟩
def dkwX2_next_5 : List UInt8 := [181, 0, 15, 177]
abbrev dktX2_next_5 : List UInt8 := dkwX2_next_5 ++ []
def dkwX2_next_4 : List UInt8 := [182, 0, 51, 155, 0, 8, 42, 7, 181, 0, 33, 42, 27, 181, 0, 57, 42, 89, 180, 0, 15, 4, 96]
abbrev dktX2_next_4 : List UInt8 := dkwX2_next_4 ++ dktX2_next_5
def dkwX2_next_3 : List UInt8 := [182, 0, 40, 167, 0, 47, 42, 27, 182, 0, 43, 153, 0, 10, 42, 182, 0, 46, 167, 0, 32, 18, 49, 27]
abbrev dktX2_next_3 : List UInt8 := dkwX2_next_3 ++ dktX2_next_4
def dkwX2_next_2 : List UInt8 := [60, 27, 2, 160, 0, 11, 42, 3, 181, 0, 33, 167, 0, 62, 42, 27, 182, 0, 36, 153, 0, 10, 42]
abbrev dktX2_next_2 : List UInt8 := dkwX2_next_2 ++ dktX2_next_3
def dkwX2_next_1 : List UInt8 := [96, 181, 0, 15, 167, 255, 228, 42, 42, 180, 0, 15, 181, 0, 30, 42, 4, 181, 0, 33, 42, 182, 0, 26]
abbrev dktX2_next_1 : List UInt8 := dkwX2_next_1 ++ dktX2_next_2
def dkwX2_next_0 : List UInt8 := [42, 182, 0, 26, 16, 32, 159, 0, 12, 42, 182, 0, 26, 16, 10, 160, 0, 16, 42, 89, 180, 0, 15, 4]
abbrev dktX2_next_0 : List UInt8 := dkwX2_next_0 ++ dktX2_next_1
theorem dksX2_next_0 : cX2_next.data.toList.drop 0 = dktX2_next_0 := by decide +kernel
theorem dksX2_next_1 : cX2_next.data.toList.drop 24 = dktX2_next_1 := dk_seg dksX2_next_0 24 rfl rfl
theorem dksX2_next_2 : cX2_next.data.toList.drop 48 = dktX2_next_2 := dk_seg dksX2_next_1 24 rfl rfl
theorem dksX2_next_3 : cX2_next.data.toList.drop 71 = dktX2_next_3 := dk_seg dksX2_next_2 23 rfl rfl
theorem dksX2_next_4 : cX2_next.data.toList.drop 95 = dktX2_next_4 := dk_seg dksX2_next_3 24 rfl rfl
theorem dksX2_next_5 : cX2_next.data.toList.drop 118 = dktX2_next_5 := dk_seg dksX2_next_4 23 rfl rfl
theorem dX2_next_0 : decode cX2_next 0 = .ok (.aload_n 0, 1) := dk_42 (dk_at dksX2_next_0 0 rfl rfl)
theorem dX2_next_1 : decode cX2_next 1 = .ok (.invokevirtual 26, 3) := dk_182 0 26 (dk_at dksX2_next_0 1 rfl rfl)
theorem dX2_next_4 : decode cX2_next 4 = .ok (.bipush 32, 2) := dk_16 32 (dk_at dksX2_next_0 4 rfl rfl)
theorem dX2_next_6 : decode cX2_next 6 = .ok (.if_icmp .eq 12, 3) := dk_159 0 12 (dk_at dksX2_next_0 6 rfl rfl)
theorem dX2_next_9 : decode cX2_next 9 = .ok (.aload_n 0, 1) := dk_42 (dk_at dksX2_next_0 9 rfl rfl)
theorem dX2_next_10 : decode cX2_next 10 = .ok (.invokevirtual 26, 3) := dk_182 0 26 (dk_at dksX2_next_0 10 rfl rfl)
theorem dX2_next_13 : decode cX2_next 13 = .ok (.bipush 10, 2) := dk_16 10 (dk_at dksX2_next_0 13 rfl rfl)
theorem dX2_next_15 : decode cX2_next 15 = .ok (.if_icmp .ne 16, 3) := dk_160 0 16 (dk_at dksX2_next_0 15 rfl rfl)
theorem dX2_next_18 : decode cX2_next 18 = .ok (.aload_n 0, 1) := dk_42 (dk_at dksX2_next_0 18 rfl rfl)
theorem dX2_next_19 : decode cX2_next 19 = .ok (.dup, 1) := dk_89 (dk_at dksX2_next_0 19 rfl rfl)
theorem dX2_next_20 : decode cX2_next 20 = .ok (.getfield 15, 3) := dk_180 0 15 (dk_at dksX2_next_0 20 rfl rfl)
theorem dX2_next_23 : decode cX2_next 23 = .ok (.iconst 1, 1) := dk_4 (dk_at dksX2_next_0 23 rfl rfl)
theorem dX2_next_24 : decode cX2_next 24 = .ok (.iadd, 1) := dk_96 (dk_at dksX2_next_1 0 rfl rfl)
theorem dX2_next_25 : decode cX2_next 25 = .ok (.putfield 15, 3) := dk_181 0 15 (dk_at dksX2_next_1 1 rfl rfl)
theorem dX2_next_28 : decode cX2_next 28 = .ok (.goto (-28), 3) := dk_167 255 228 (dk_at dksX2_next_1 4 rfl rfl)
theorem dX2_next_31 : decode cX2_next 31 = .ok (.aload_n 0, 1) := dk_42 (dk_at dksX2_next_1 7 rfl rfl)
theorem dX2_next_32 : decode cX2_next 32 = .ok (.aload_n 0, 1) := dk_42 (dk_at dksX2_next_1 8 rfl rfl)
theorem dX2_next_33 : decode cX2_next 33 = .ok (.getfield 15, 3) := dk_180 0 15 (dk_at dksX2_next_1 9 rfl rfl)
theorem dX2_next_36 : decode cX2_next 36 = .ok (.putfield 30, 3) := dk_181 0 30 (dk_at dksX2_next_1 12 rfl rfl)
theorem dX2_next_39 : decode cX2_next 39 = .ok (.aload_n 0, 1) := dk_42 (dk_at dksX2_next_1 15 rfl rfl)
theorem dX2_next_40 : decode cX2_next 40 = .ok (.iconst 1, 1) := dk_4 (dk_at dksX2_next_1 16 rfl rfl)
theorem dX2_next_41 : decode cX2_next 41 = .ok (.putfield 33, 3) := dk_181 0 33 (dk_at dksX2_next_1 17 rfl rfl)
theorem dX2_next_44 : decode cX2_next 44 = .ok (.aload_n 0, 1) := dk_42 (dk_at dksX2_next_1 20 rfl rfl)
theorem dX2_next_45 : decode cX2_next 45 = .ok (.invokevirtual 26, 3) := dk_182 0 26 (dk_at dksX2_next_1 21 rfl rfl)
theorem dX2_next_48 : decode cX2_next 48 = .ok (.istore_n 1, 1) := dk_60 (dk_at dksX2_next_2 0 rfl rfl)
theorem dX2_next_49 : decode cX2_next 49 = .ok (.iload_n 1, 1) := dk_27 (dk_at dksX2_next_2 1 rfl rfl)
theorem dX2_next_50 : decode cX2_next 50 = .ok (.iconst (-1), 1) := dk_2 (dk_at dksX2_next_2 2 rfl rfl)
theorem dX2_next_51 : decode cX2_next 51 = .ok (.if_icmp .ne 11, 3) := dk_160 0 11 (dk_at dksX2_next_2 3 rfl rfl)
theorem dX2_next_54 : decode cX2_next 54 = .ok (.aload_n 0, 1) := dk_42 (dk_at dksX2_next_2 6 rfl rfl)
theorem dX2_next_55 : decode cX2_next 55 = .ok (.iconst 0, 1) := dk_3 (dk_at dksX2_next_2 7 rfl rfl)
theorem dX2_next_56 : decode cX2_next 56 = .ok (.putfield 33, 3) := dk_181 0 33 (dk_at dksX2_next_2 8 rfl rfl)
theorem dX2_next_59 : decode cX2_next 59 = .ok (.goto 62, 3) := dk_167 0 62 (dk_at dksX2_next_2 11 rfl rfl)
theorem dX2_next_62 : decode cX2_next 62 = .ok (.aload_n 0, 1) := dk_42 (dk_at dksX2_next_2 14 rfl rfl)
theorem dX2_next_63 : decode cX2_next 63 = .ok (.iload_n 1, 1) := dk_27 (dk_at dksX2_next_2 15 rfl rfl)
theorem dX2_next_64 : decode cX2_next 64 = .ok (.invokevirtual 36, 3) := dk_182 0 36 (dk_at dksX2_next_2 16 rfl rfl)
theorem dX2_next_67 : decode cX2_next 67 = .ok (.ifCond .eq 10, 3) := dk_153 0 10 (dk_at dksX2_next_2 19 rfl rfl)
theorem dX2_next_70 : decode cX2_next 70 = .ok (.aload_n 0, 1) := dk_42 (dk_at dksX2_next_2 22 rfl rfl)
theorem dX2_next_71 : decode cX2_next 71 = .ok (.invokevirtual 40, 3) := dk_182 0 40 (dk_at dksX2_next_3 0 rfl rfl)
theorem dX2_next_74 : decode cX2_next 74 = .ok (.goto 47, 3) := dk_167 0 47 (dk_at dksX2_next_3 3 rfl rfl)
theorem dX2_next_77 : decode cX2_next 77 = .ok (.aload_n 0, 1) := dk_42 (dk_at dksX2_next_3 6 rfl rfl)
theorem dX2_next_78 : decode cX2_next 78 = .ok (.iload_n 1, 1) := dk_27 (dk_at dksX2_next_3 7 rfl rfl)
theorem dX2_next_79 : decode cX2_next 79 = .ok (.invokevirtual 43, 3) := dk_182 0 43 (dk_at dksX2_next_3 8 rfl rfl)
theorem dX2_next_82 : decode cX2_next 82 = .ok (.ifCond .eq 10, 3) := dk_153 0 10 (dk_at dksX2_next_3 11 rfl rfl)
theorem dX2_next_85 : decode cX2_next 85 = .ok (.aload_n 0, 1) := dk_42 (dk_at dksX2_next_3 14 rfl rfl)
theorem dX2_next_86 : decode cX2_next 86 = .ok (.invokevirtual 46, 3) := dk_182 0 46 (dk_at dksX2_next_3 15 rfl rfl)
theorem dX2_next_89 : decode cX2_next 89 = .ok (.goto 32, 3) := dk_167 0 32 (dk_at dksX2_next_3 18 rfl rfl)
theorem dX2_next_92 : decode cX2_next 92 = .ok (.ldc 49, 2) := dk_18 49 (dk_at dksX2_next_3 21 rfl rfl)
theorem dX2_next_94 : decode cX2_next 94 = .ok (.iload_n 1, 1) := dk_27 (dk_at dksX2_next_3 23 rfl rfl)
theorem dX2_next_95 : decode cX2_next 95 = .ok (.invokevirtual 51, 3) := dk_182 0 51 (dk_at dksX2_next_4 0 rfl rfl)
theorem dX2_next_98 : decode cX2_next 98 = .ok (.ifCond .lt 8, 3) := dk_155 0 8 (dk_at dksX2_next_4 3 rfl rfl)
theorem dX2_next_101 : decode cX2_next 101 = .ok (.aload_n 0, 1) := dk_42 (dk_at dksX2_next_4 6 rfl rfl)
theorem dX2_next_102 : decode cX2_next 102 = .ok (.iconst 4, 1) := dk_7 (dk_at dksX2_next_4 7 rfl rfl)
theorem dX2_next_103 : decode cX2_next 103 = .ok (.putfield 33, 3) := dk_181 0 33 (dk_at dksX2_next_4 8 rfl rfl)
theorem dX2_next_106 : decode cX2_next 106 = .ok (.aload_n 0, 1) := dk_42 (dk_at dksX2_next_4 11 rfl rfl)
theorem dX2_next_107 : decode cX2_next 107 = .ok (.iload_n 1, 1) := dk_27 (dk_at dksX2_next_4 12 rfl rfl)
theorem dX2_next_108 : decode cX2_next 108 = .ok (.putfield 57, 3) := dk_181 0 57 (dk_at dksX2_next_4 13 rfl rfl)
theorem dX2_next_111 : decode cX2_next 111 = .ok (.aload_n 0, 1) := dk_42 (dk_at dksX2_next_4 16 rfl rfl)
theorem dX2_next_112 : decode cX2_next 112 = .ok (.dup, 1) := dk_89 (dk_at dksX2_next_4 17 rfl rfl)
theorem dX2_next_113 : decode cX2_next 113 = .ok (.getfield 15, 3) := dk_180 0 15 (dk_at dksX2_next_4 18 rfl rfl)
theorem dX2_next_116 : decode cX2_next 116 = .ok (.iconst 1, 1) := dk_4 (dk_at dksX2_next_4 21 rfl rfl)
theorem dX2_next_117 : decode cX2_next 117 = .ok (.iadd, 1) := dk_96 (dk_at dksX2_next_4 22 rfl rfl)
theorem dX2_next_118 : decode cX2_next 118 = .ok (.putfield 15, 3) := dk_181 0 15 (dk_at dksX2_next_5 0 rfl rfl)
theorem dX2_next_121 : decode cX2_next 121 = .ok (.return_, 1) := dk_177 (dk_at dksX2_next_5 3 rfl rfl)
abbrev cX2_raw : ByteArray := prog_18_method_2_code
def yX2_raw : MethodName := ⟨RX2, "raw", "()I"⟩
def dkwX2_raw_1 : List UInt8 := [180, 0, 15, 51, 17, 0, 255, 126, 167, 0, 4, 2, 172]
abbrev dktX2_raw_1 : List UInt8 := dkwX2_raw_1 ++ []
def dkwX2_raw_0 : List UInt8 := [42, 180, 0, 15, 42, 180, 0, 3, 180, 0, 19, 162, 0, 22, 42, 180, 0, 3, 180, 0, 22, 42]
abbrev dktX2_raw_0 : List UInt8 := dkwX2_raw_0 ++ dktX2_raw_1
theorem dksX2_raw_0 : cX2_raw.data.toList.drop 0 = dktX2_raw_0 := by decide +kernel
theorem dksX2_raw_1 : cX2_raw.data.toList.drop 22 = dktX2_raw_1 := dk_seg dksX2_raw_0 22 rfl rfl
theorem dX2_raw_0 : decode cX2_raw 0 = .ok (.aload_n 0, 1) := dk_42 (dk_at dksX2_raw_0 0 rfl rfl)
theorem dX2_raw_1 : decode cX2_raw 1 = .ok (.getfield 15, 3) := dk_180 0 15 (dk_at dksX2_raw_0 1 rfl rfl)
theorem dX2_raw_4 : decode cX2_raw 4 = .ok (.aload_n 0, 1) := dk_42 (dk_at dksX2_raw_0 4 rfl rfl)
theorem dX2_raw_5 : decode cX2_raw 5 = .ok (.getfield 3, 3) := dk_180 0 3 (dk_at dksX2_raw_0 5 rfl rfl)
theorem dX2_raw_8 : decode cX2_raw 8 = .ok (.getfield 19, 3) := dk_180 0 19 (dk_at dksX2_raw_0 8 rfl rfl)
theorem dX2_raw_11 : decode cX2_raw 11 = .ok (.if_icmp .ge 22, 3) := dk_162 0 22 (dk_at dksX2_raw_0 11 rfl rfl)
theorem dX2_raw_14 : decode cX2_raw 14 = .ok (.aload_n 0, 1) := dk_42 (dk_at dksX2_raw_0 14 rfl rfl)
theorem dX2_raw_15 : decode cX2_raw 15 = .ok (.getfield 3, 3) := dk_180 0 3 (dk_at dksX2_raw_0 15 rfl rfl)
theorem dX2_raw_18 : decode cX2_raw 18 = .ok (.getfield 22, 3) := dk_180 0 22 (dk_at dksX2_raw_0 18 rfl rfl)
theorem dX2_raw_21 : decode cX2_raw 21 = .ok (.aload_n 0, 1) := dk_42 (dk_at dksX2_raw_0 21 rfl rfl)
theorem dX2_raw_22 : decode cX2_raw 22 = .ok (.getfield 15, 3) := dk_180 0 15 (dk_at dksX2_raw_1 0 rfl rfl)
theorem dX2_raw_25 : decode cX2_raw 25 = .ok (.baload, 1) := dk_51 (dk_at dksX2_raw_1 3 rfl rfl)
theorem dX2_raw_26 : decode cX2_raw 26 = .ok (.sipush 255, 3) := dk_17 0 255 (dk_at dksX2_raw_1 4 rfl rfl)
theorem dX2_raw_29 : decode cX2_raw 29 = .ok (.iand, 1) := dk_126 (dk_at dksX2_raw_1 7 rfl rfl)
theorem dX2_raw_30 : decode cX2_raw 30 = .ok (.goto 4, 3) := dk_167 0 4 (dk_at dksX2_raw_1 8 rfl rfl)
theorem dX2_raw_33 : decode cX2_raw 33 = .ok (.iconst (-1), 1) := dk_2 (dk_at dksX2_raw_1 11 rfl rfl)
theorem dX2_raw_34 : decode cX2_raw 34 = .ok (.ireturn, 1) := dk_172 (dk_at dksX2_raw_1 12 rfl rfl)
abbrev cX2_isLetter : ByteArray := prog_18_method_3_code
def yX2_isLetter : MethodName := ⟨RX2, "isLetter", "(I)Z"⟩
def dkwX2_isLetter_1 : List UInt8 := [4, 167, 0, 4, 3, 172]
abbrev dktX2_isLetter_1 : List UInt8 := dkwX2_isLetter_1 ++ []
def dkwX2_isLetter_0 : List UInt8 := [27, 16, 97, 161, 0, 9, 27, 16, 122, 164, 0, 15, 27, 16, 65, 161, 0, 13, 27, 16, 90, 163, 0, 7]
abbrev dktX2_isLetter_0 : List UInt8 := dkwX2_isLetter_0 ++ dktX2_isLetter_1
theorem dksX2_isLetter_0 : cX2_isLetter.data.toList.drop 0 = dktX2_isLetter_0 := by decide +kernel
theorem dksX2_isLetter_1 : cX2_isLetter.data.toList.drop 24 = dktX2_isLetter_1 := dk_seg dksX2_isLetter_0 24 rfl rfl
theorem dX2_isLetter_0 : decode cX2_isLetter 0 = .ok (.iload_n 1, 1) := dk_27 (dk_at dksX2_isLetter_0 0 rfl rfl)
theorem dX2_isLetter_1 : decode cX2_isLetter 1 = .ok (.bipush 97, 2) := dk_16 97 (dk_at dksX2_isLetter_0 1 rfl rfl)
theorem dX2_isLetter_3 : decode cX2_isLetter 3 = .ok (.if_icmp .lt 9, 3) := dk_161 0 9 (dk_at dksX2_isLetter_0 3 rfl rfl)
theorem dX2_isLetter_6 : decode cX2_isLetter 6 = .ok (.iload_n 1, 1) := dk_27 (dk_at dksX2_isLetter_0 6 rfl rfl)
theorem dX2_isLetter_7 : decode cX2_isLetter 7 = .ok (.bipush 122, 2) := dk_16 122 (dk_at dksX2_isLetter_0 7 rfl rfl)
theorem dX2_isLetter_9 : decode cX2_isLetter 9 = .ok (.if_icmp .le 15, 3) := dk_164 0 15 (dk_at dksX2_isLetter_0 9 rfl rfl)
theorem dX2_isLetter_12 : decode cX2_isLetter 12 = .ok (.iload_n 1, 1) := dk_27 (dk_at dksX2_isLetter_0 12 rfl rfl)
theorem dX2_isLetter_13 : decode cX2_isLetter 13 = .ok (.bipush 65, 2) := dk_16 65 (dk_at dksX2_isLetter_0 13 rfl rfl)
theorem dX2_isLetter_15 : decode cX2_isLetter 15 = .ok (.if_icmp .lt 13, 3) := dk_161 0 13 (dk_at dksX2_isLetter_0 15 rfl rfl)
theorem dX2_isLetter_18 : decode cX2_isLetter 18 = .ok (.iload_n 1, 1) := dk_27 (dk_at dksX2_isLetter_0 18 rfl rfl)
theorem dX2_isLetter_19 : decode cX2_isLetter 19 = .ok (.bipush 90, 2) := dk_16 90 (dk_at dksX2_isLetter_0 19 rfl rfl)
theorem dX2_isLetter_21 : decode cX2_isLetter 21 = .ok (.if_icmp .gt 7, 3) := dk_163 0 7 (dk_at dksX2_isLetter_0 21 rfl rfl)
theorem dX2_isLetter_24 : decode cX2_isLetter 24 = .ok (.iconst 1, 1) := dk_4 (dk_at dksX2_isLetter_1 0 rfl rfl)
theorem dX2_isLetter_25 : decode cX2_isLetter 25 = .ok (.goto 4, 3) := dk_167 0 4 (dk_at dksX2_isLetter_1 1 rfl rfl)
theorem dX2_isLetter_28 : decode cX2_isLetter 28 = .ok (.iconst 0, 1) := dk_3 (dk_at dksX2_isLetter_1 4 rfl rfl)
theorem dX2_isLetter_29 : decode cX2_isLetter 29 = .ok (.ireturn, 1) := dk_172 (dk_at dksX2_isLetter_1 5 rfl rfl)
abbrev cX2_letters : ByteArray := prog_18_method_6_code
def yX2_letters : MethodName := ⟨RX2, "letters", "()V"⟩
def dkwX2_letters_4 : List UInt8 := [181, 0, 33, 42, 29, 181, 0, 57, 132, 3, 1, 167, 255, 212, 177]
abbrev dktX2_letters_4 : List UInt8 := dkwX2_letters_4 ++ []
def dkwX2_letters_3 : List UInt8 := [162, 0, 38, 42, 180, 0, 3, 180, 0, 76, 29, 50, 44, 182, 0, 80, 154, 0, 6, 167, 0, 13, 42, 5]
abbrev dktX2_letters_3 : List UInt8 := dkwX2_letters_3 ++ dktX2_letters_4
def dkwX2_letters_2 : List UInt8 := [96, 181, 0, 15, 167, 255, 216, 43, 182, 0, 72, 77, 3, 62, 29, 42, 180, 0, 3, 180, 0, 76, 190]
abbrev dktX2_letters_2 : List UInt8 := dkwX2_letters_2 ++ dktX2_letters_3
def dkwX2_letters_1 : List UInt8 := [182, 0, 65, 16, 9, 162, 0, 13, 43, 42, 182, 0, 26, 146, 182, 0, 68, 87, 42, 89, 180, 0, 15, 4]
abbrev dktX2_letters_1 : List UInt8 := dkwX2_letters_1 ++ dktX2_letters_2
def dkwX2_letters_0 : List UInt8 := [187, 0, 60, 89, 16, 12, 183, 0, 62, 76, 42, 42, 182, 0, 26, 182, 0, 36, 153, 0, 35, 43]
abbrev dktX2_letters_0 : List UInt8 := dkwX2_letters_0 ++ dktX2_letters_1
theorem dksX2_letters_0 : cX2_letters.data.toList.drop 0 = dktX2_letters_0 := by decide +kernel
theorem dksX2_letters_1 : cX2_letters.data.toList.drop 22 = dktX2_letters_1 := dk_seg dksX2_letters_0 22 rfl rfl
theorem dksX2_letters_2 : cX2_letters.data.toList.drop 46 = dktX2_letters_2 := dk_seg dksX2_letters_1 24 rfl rfl
theorem dksX2_letters_3 : cX2_letters.data.toList.drop 69 = dktX2_letters_3 := dk_seg dksX2_letters_2 23 rfl rfl
theorem dksX2_letters_4 : cX2_letters.data.toList.drop 93 = dktX2_letters_4 := dk_seg dksX2_letters_3 24 rfl rfl
theorem dX2_letters_0 : decode cX2_letters 0 = .ok (.new 60, 3) := dk_187 0 60 (dk_at dksX2_letters_0 0 rfl rfl)
theorem dX2_letters_3 : decode cX2_letters 3 = .ok (.dup, 1) := dk_89 (dk_at dksX2_letters_0 3 rfl rfl)
theorem dX2_letters_4 : decode cX2_letters 4 = .ok (.bipush 12, 2) := dk_16 12 (dk_at dksX2_letters_0 4 rfl rfl)
theorem dX2_letters_6 : decode cX2_letters 6 = .ok (.invokespecial 62, 3) := dk_183 0 62 (dk_at dksX2_letters_0 6 rfl rfl)
theorem dX2_letters_9 : decode cX2_letters 9 = .ok (.astore_n 1, 1) := dk_76 (dk_at dksX2_letters_0 9 rfl rfl)
theorem dX2_letters_10 : decode cX2_letters 10 = .ok (.aload_n 0, 1) := dk_42 (dk_at dksX2_letters_0 10 rfl rfl)
theorem dX2_letters_11 : decode cX2_letters 11 = .ok (.aload_n 0, 1) := dk_42 (dk_at dksX2_letters_0 11 rfl rfl)
theorem dX2_letters_12 : decode cX2_letters 12 = .ok (.invokevirtual 26, 3) := dk_182 0 26 (dk_at dksX2_letters_0 12 rfl rfl)
theorem dX2_letters_15 : decode cX2_letters 15 = .ok (.invokevirtual 36, 3) := dk_182 0 36 (dk_at dksX2_letters_0 15 rfl rfl)
theorem dX2_letters_18 : decode cX2_letters 18 = .ok (.ifCond .eq 35, 3) := dk_153 0 35 (dk_at dksX2_letters_0 18 rfl rfl)
theorem dX2_letters_21 : decode cX2_letters 21 = .ok (.aload_n 1, 1) := dk_43 (dk_at dksX2_letters_0 21 rfl rfl)
theorem dX2_letters_22 : decode cX2_letters 22 = .ok (.invokevirtual 65, 3) := dk_182 0 65 (dk_at dksX2_letters_1 0 rfl rfl)
theorem dX2_letters_25 : decode cX2_letters 25 = .ok (.bipush 9, 2) := dk_16 9 (dk_at dksX2_letters_1 3 rfl rfl)
theorem dX2_letters_27 : decode cX2_letters 27 = .ok (.if_icmp .ge 13, 3) := dk_162 0 13 (dk_at dksX2_letters_1 5 rfl rfl)
theorem dX2_letters_30 : decode cX2_letters 30 = .ok (.aload_n 1, 1) := dk_43 (dk_at dksX2_letters_1 8 rfl rfl)
theorem dX2_letters_31 : decode cX2_letters 31 = .ok (.aload_n 0, 1) := dk_42 (dk_at dksX2_letters_1 9 rfl rfl)
theorem dX2_letters_32 : decode cX2_letters 32 = .ok (.invokevirtual 26, 3) := dk_182 0 26 (dk_at dksX2_letters_1 10 rfl rfl)
theorem dX2_letters_35 : decode cX2_letters 35 = .ok (.i2c, 1) := dk_146 (dk_at dksX2_letters_1 13 rfl rfl)
theorem dX2_letters_36 : decode cX2_letters 36 = .ok (.invokevirtual 68, 3) := dk_182 0 68 (dk_at dksX2_letters_1 14 rfl rfl)
theorem dX2_letters_39 : decode cX2_letters 39 = .ok (.pop, 1) := dk_87 (dk_at dksX2_letters_1 17 rfl rfl)
theorem dX2_letters_40 : decode cX2_letters 40 = .ok (.aload_n 0, 1) := dk_42 (dk_at dksX2_letters_1 18 rfl rfl)
theorem dX2_letters_41 : decode cX2_letters 41 = .ok (.dup, 1) := dk_89 (dk_at dksX2_letters_1 19 rfl rfl)
theorem dX2_letters_42 : decode cX2_letters 42 = .ok (.getfield 15, 3) := dk_180 0 15 (dk_at dksX2_letters_1 20 rfl rfl)
theorem dX2_letters_45 : decode cX2_letters 45 = .ok (.iconst 1, 1) := dk_4 (dk_at dksX2_letters_1 23 rfl rfl)
theorem dX2_letters_46 : decode cX2_letters 46 = .ok (.iadd, 1) := dk_96 (dk_at dksX2_letters_2 0 rfl rfl)
theorem dX2_letters_47 : decode cX2_letters 47 = .ok (.putfield 15, 3) := dk_181 0 15 (dk_at dksX2_letters_2 1 rfl rfl)
theorem dX2_letters_50 : decode cX2_letters 50 = .ok (.goto (-40), 3) := dk_167 255 216 (dk_at dksX2_letters_2 4 rfl rfl)
theorem dX2_letters_53 : decode cX2_letters 53 = .ok (.aload_n 1, 1) := dk_43 (dk_at dksX2_letters_2 7 rfl rfl)
theorem dX2_letters_54 : decode cX2_letters 54 = .ok (.invokevirtual 72, 3) := dk_182 0 72 (dk_at dksX2_letters_2 8 rfl rfl)
theorem dX2_letters_57 : decode cX2_letters 57 = .ok (.astore_n 2, 1) := dk_77 (dk_at dksX2_letters_2 11 rfl rfl)
theorem dX2_letters_58 : decode cX2_letters 58 = .ok (.iconst 0, 1) := dk_3 (dk_at dksX2_letters_2 12 rfl rfl)
theorem dX2_letters_59 : decode cX2_letters 59 = .ok (.istore_n 3, 1) := dk_62 (dk_at dksX2_letters_2 13 rfl rfl)
theorem dX2_letters_60 : decode cX2_letters 60 = .ok (.iload_n 3, 1) := dk_29 (dk_at dksX2_letters_2 14 rfl rfl)
theorem dX2_letters_61 : decode cX2_letters 61 = .ok (.aload_n 0, 1) := dk_42 (dk_at dksX2_letters_2 15 rfl rfl)
theorem dX2_letters_62 : decode cX2_letters 62 = .ok (.getfield 3, 3) := dk_180 0 3 (dk_at dksX2_letters_2 16 rfl rfl)
theorem dX2_letters_65 : decode cX2_letters 65 = .ok (.getfield 76, 3) := dk_180 0 76 (dk_at dksX2_letters_2 19 rfl rfl)
theorem dX2_letters_68 : decode cX2_letters 68 = .ok (.arraylength, 1) := dk_190 (dk_at dksX2_letters_2 22 rfl rfl)
theorem dX2_letters_69 : decode cX2_letters 69 = .ok (.if_icmp .ge 38, 3) := dk_162 0 38 (dk_at dksX2_letters_3 0 rfl rfl)
theorem dX2_letters_72 : decode cX2_letters 72 = .ok (.aload_n 0, 1) := dk_42 (dk_at dksX2_letters_3 3 rfl rfl)
theorem dX2_letters_73 : decode cX2_letters 73 = .ok (.getfield 3, 3) := dk_180 0 3 (dk_at dksX2_letters_3 4 rfl rfl)
theorem dX2_letters_76 : decode cX2_letters 76 = .ok (.getfield 76, 3) := dk_180 0 76 (dk_at dksX2_letters_3 7 rfl rfl)
theorem dX2_letters_79 : decode cX2_letters 79 = .ok (.iload_n 3, 1) := dk_29 (dk_at dksX2_letters_3 10 rfl rfl)
theorem dX2_letters_80 : decode cX2_letters 80 = .ok (.aaload, 1) := dk_50 (dk_at dksX2_letters_3 11 rfl rfl)
theorem dX2_letters_81 : decode cX2_letters 81 = .ok (.aload_n 2, 1) := dk_44 (dk_at dksX2_letters_3 12 rfl rfl)
theorem dX2_letters_82 : decode cX2_letters 82 = .ok (.invokevirtual 80, 3) := dk_182 0 80 (dk_at dksX2_letters_3 13 rfl rfl)
theorem dX2_letters_85 : decode cX2_letters 85 = .ok (.ifCond .ne 6, 3) := dk_154 0 6 (dk_at dksX2_letters_3 16 rfl rfl)
theorem dX2_letters_88 : decode cX2_letters 88 = .ok (.goto 13, 3) := dk_167 0 13 (dk_at dksX2_letters_3 19 rfl rfl)
theorem dX2_letters_91 : decode cX2_letters 91 = .ok (.aload_n 0, 1) := dk_42 (dk_at dksX2_letters_3 22 rfl rfl)
theorem dX2_letters_92 : decode cX2_letters 92 = .ok (.iconst 2, 1) := dk_5 (dk_at dksX2_letters_3 23 rfl rfl)
theorem dX2_letters_93 : decode cX2_letters 93 = .ok (.putfield 33, 3) := dk_181 0 33 (dk_at dksX2_letters_4 0 rfl rfl)
theorem dX2_letters_96 : decode cX2_letters 96 = .ok (.aload_n 0, 1) := dk_42 (dk_at dksX2_letters_4 3 rfl rfl)
theorem dX2_letters_97 : decode cX2_letters 97 = .ok (.iload_n 3, 1) := dk_29 (dk_at dksX2_letters_4 4 rfl rfl)
theorem dX2_letters_98 : decode cX2_letters 98 = .ok (.putfield 57, 3) := dk_181 0 57 (dk_at dksX2_letters_4 5 rfl rfl)
theorem dX2_letters_101 : decode cX2_letters 101 = .ok (.iinc 3 1, 3) := dk_132 3 1 (dk_at dksX2_letters_4 8 rfl rfl)
theorem dX2_letters_104 : decode cX2_letters 104 = .ok (.goto (-44), 3) := dk_167 255 212 (dk_at dksX2_letters_4 11 rfl rfl)
theorem dX2_letters_107 : decode cX2_letters 107 = .ok (.return_, 1) := dk_177 (dk_at dksX2_letters_4 14 rfl rfl)
abbrev cX2_isDigit : ByteArray := prog_18_method_4_code
def yX2_isDigit : MethodName := ⟨RX2, "isDigit", "(I)Z"⟩
def dkwX2_isDigit_0 : List UInt8 := [27, 16, 48, 161, 0, 13, 27, 16, 57, 163, 0, 7, 4, 167, 0, 4, 3, 172]
abbrev dktX2_isDigit_0 : List UInt8 := dkwX2_isDigit_0 ++ []
theorem dksX2_isDigit_0 : cX2_isDigit.data.toList.drop 0 = dktX2_isDigit_0 := by decide +kernel
theorem dX2_isDigit_0 : decode cX2_isDigit 0 = .ok (.iload_n 1, 1) := dk_27 (dk_at dksX2_isDigit_0 0 rfl rfl)
theorem dX2_isDigit_1 : decode cX2_isDigit 1 = .ok (.bipush 48, 2) := dk_16 48 (dk_at dksX2_isDigit_0 1 rfl rfl)
theorem dX2_isDigit_3 : decode cX2_isDigit 3 = .ok (.if_icmp .lt 13, 3) := dk_161 0 13 (dk_at dksX2_isDigit_0 3 rfl rfl)
theorem dX2_isDigit_6 : decode cX2_isDigit 6 = .ok (.iload_n 1, 1) := dk_27 (dk_at dksX2_isDigit_0 6 rfl rfl)
theorem dX2_isDigit_7 : decode cX2_isDigit 7 = .ok (.bipush 57, 2) := dk_16 57 (dk_at dksX2_isDigit_0 7 rfl rfl)
theorem dX2_isDigit_9 : decode cX2_isDigit 9 = .ok (.if_icmp .gt 7, 3) := dk_163 0 7 (dk_at dksX2_isDigit_0 9 rfl rfl)
theorem dX2_isDigit_12 : decode cX2_isDigit 12 = .ok (.iconst 1, 1) := dk_4 (dk_at dksX2_isDigit_0 12 rfl rfl)
theorem dX2_isDigit_13 : decode cX2_isDigit 13 = .ok (.goto 4, 3) := dk_167 0 4 (dk_at dksX2_isDigit_0 13 rfl rfl)
theorem dX2_isDigit_16 : decode cX2_isDigit 16 = .ok (.iconst 0, 1) := dk_3 (dk_at dksX2_isDigit_0 16 rfl rfl)
theorem dX2_isDigit_17 : decode cX2_isDigit 17 = .ok (.ireturn, 1) := dk_172 (dk_at dksX2_isDigit_0 17 rfl rfl)
abbrev cX2_digits : ByteArray := prog_18_method_7_code
def yX2_digits : MethodName := ⟨RX2, "digits", "()V"⟩
def dkwX2_digits_3 : List UInt8 := [42, 6, 181, 0, 33, 177]
abbrev dktX2_digits_3 : List UInt8 := dkwX2_digits_3 ++ []
def dkwX2_digits_2 : List UInt8 := [181, 0, 57, 132, 1, 1, 42, 89, 180, 0, 15, 4, 96, 181, 0, 15, 167, 255, 201, 27, 8, 162, 0, 8]
abbrev dktX2_digits_2 : List UInt8 := dkwX2_digits_2 ++ dktX2_digits_3
def dkwX2_digits_1 : List UInt8 := [16, 10, 42, 180, 0, 57, 104, 42, 182, 0, 26, 96, 16, 48, 100, 167, 0, 7, 42, 180, 0, 57]
abbrev dktX2_digits_1 : List UInt8 := dkwX2_digits_1 ++ dktX2_digits_2
def dkwX2_digits_0 : List UInt8 := [3, 60, 42, 3, 181, 0, 57, 42, 42, 182, 0, 26, 182, 0, 43, 153, 0, 50, 42, 27, 7, 162, 0, 21]
abbrev dktX2_digits_0 : List UInt8 := dkwX2_digits_0 ++ dktX2_digits_1
theorem dksX2_digits_0 : cX2_digits.data.toList.drop 0 = dktX2_digits_0 := by decide +kernel
theorem dksX2_digits_1 : cX2_digits.data.toList.drop 24 = dktX2_digits_1 := dk_seg dksX2_digits_0 24 rfl rfl
theorem dksX2_digits_2 : cX2_digits.data.toList.drop 46 = dktX2_digits_2 := dk_seg dksX2_digits_1 22 rfl rfl
theorem dksX2_digits_3 : cX2_digits.data.toList.drop 70 = dktX2_digits_3 := dk_seg dksX2_digits_2 24 rfl rfl
theorem dX2_digits_0 : decode cX2_digits 0 = .ok (.iconst 0, 1) := dk_3 (dk_at dksX2_digits_0 0 rfl rfl)
theorem dX2_digits_1 : decode cX2_digits 1 = .ok (.istore_n 1, 1) := dk_60 (dk_at dksX2_digits_0 1 rfl rfl)
theorem dX2_digits_2 : decode cX2_digits 2 = .ok (.aload_n 0, 1) := dk_42 (dk_at dksX2_digits_0 2 rfl rfl)
theorem dX2_digits_3 : decode cX2_digits 3 = .ok (.iconst 0, 1) := dk_3 (dk_at dksX2_digits_0 3 rfl rfl)
theorem dX2_digits_4 : decode cX2_digits 4 = .ok (.putfield 57, 3) := dk_181 0 57 (dk_at dksX2_digits_0 4 rfl rfl)
theorem dX2_digits_7 : decode cX2_digits 7 = .ok (.aload_n 0, 1) := dk_42 (dk_at dksX2_digits_0 7 rfl rfl)
theorem dX2_digits_8 : decode cX2_digits 8 = .ok (.aload_n 0, 1) := dk_42 (dk_at dksX2_digits_0 8 rfl rfl)
theorem dX2_digits_9 : decode cX2_digits 9 = .ok (.invokevirtual 26, 3) := dk_182 0 26 (dk_at dksX2_digits_0 9 rfl rfl)
theorem dX2_digits_12 : decode cX2_digits 12 = .ok (.invokevirtual 43, 3) := dk_182 0 43 (dk_at dksX2_digits_0 12 rfl rfl)
theorem dX2_digits_15 : decode cX2_digits 15 = .ok (.ifCond .eq 50, 3) := dk_153 0 50 (dk_at dksX2_digits_0 15 rfl rfl)
theorem dX2_digits_18 : decode cX2_digits 18 = .ok (.aload_n 0, 1) := dk_42 (dk_at dksX2_digits_0 18 rfl rfl)
theorem dX2_digits_19 : decode cX2_digits 19 = .ok (.iload_n 1, 1) := dk_27 (dk_at dksX2_digits_0 19 rfl rfl)
theorem dX2_digits_20 : decode cX2_digits 20 = .ok (.iconst 4, 1) := dk_7 (dk_at dksX2_digits_0 20 rfl rfl)
theorem dX2_digits_21 : decode cX2_digits 21 = .ok (.if_icmp .ge 21, 3) := dk_162 0 21 (dk_at dksX2_digits_0 21 rfl rfl)
theorem dX2_digits_24 : decode cX2_digits 24 = .ok (.bipush 10, 2) := dk_16 10 (dk_at dksX2_digits_1 0 rfl rfl)
theorem dX2_digits_26 : decode cX2_digits 26 = .ok (.aload_n 0, 1) := dk_42 (dk_at dksX2_digits_1 2 rfl rfl)
theorem dX2_digits_27 : decode cX2_digits 27 = .ok (.getfield 57, 3) := dk_180 0 57 (dk_at dksX2_digits_1 3 rfl rfl)
theorem dX2_digits_30 : decode cX2_digits 30 = .ok (.imul, 1) := dk_104 (dk_at dksX2_digits_1 6 rfl rfl)
theorem dX2_digits_31 : decode cX2_digits 31 = .ok (.aload_n 0, 1) := dk_42 (dk_at dksX2_digits_1 7 rfl rfl)
theorem dX2_digits_32 : decode cX2_digits 32 = .ok (.invokevirtual 26, 3) := dk_182 0 26 (dk_at dksX2_digits_1 8 rfl rfl)
theorem dX2_digits_35 : decode cX2_digits 35 = .ok (.iadd, 1) := dk_96 (dk_at dksX2_digits_1 11 rfl rfl)
theorem dX2_digits_36 : decode cX2_digits 36 = .ok (.bipush 48, 2) := dk_16 48 (dk_at dksX2_digits_1 12 rfl rfl)
theorem dX2_digits_38 : decode cX2_digits 38 = .ok (.isub, 1) := dk_100 (dk_at dksX2_digits_1 14 rfl rfl)
theorem dX2_digits_39 : decode cX2_digits 39 = .ok (.goto 7, 3) := dk_167 0 7 (dk_at dksX2_digits_1 15 rfl rfl)
theorem dX2_digits_42 : decode cX2_digits 42 = .ok (.aload_n 0, 1) := dk_42 (dk_at dksX2_digits_1 18 rfl rfl)
theorem dX2_digits_43 : decode cX2_digits 43 = .ok (.getfield 57, 3) := dk_180 0 57 (dk_at dksX2_digits_1 19 rfl rfl)
theorem dX2_digits_46 : decode cX2_digits 46 = .ok (.putfield 57, 3) := dk_181 0 57 (dk_at dksX2_digits_2 0 rfl rfl)
theorem dX2_digits_49 : decode cX2_digits 49 = .ok (.iinc 1 1, 3) := dk_132 1 1 (dk_at dksX2_digits_2 3 rfl rfl)
theorem dX2_digits_52 : decode cX2_digits 52 = .ok (.aload_n 0, 1) := dk_42 (dk_at dksX2_digits_2 6 rfl rfl)
theorem dX2_digits_53 : decode cX2_digits 53 = .ok (.dup, 1) := dk_89 (dk_at dksX2_digits_2 7 rfl rfl)
theorem dX2_digits_54 : decode cX2_digits 54 = .ok (.getfield 15, 3) := dk_180 0 15 (dk_at dksX2_digits_2 8 rfl rfl)
theorem dX2_digits_57 : decode cX2_digits 57 = .ok (.iconst 1, 1) := dk_4 (dk_at dksX2_digits_2 11 rfl rfl)
theorem dX2_digits_58 : decode cX2_digits 58 = .ok (.iadd, 1) := dk_96 (dk_at dksX2_digits_2 12 rfl rfl)
theorem dX2_digits_59 : decode cX2_digits 59 = .ok (.putfield 15, 3) := dk_181 0 15 (dk_at dksX2_digits_2 13 rfl rfl)
theorem dX2_digits_62 : decode cX2_digits 62 = .ok (.goto (-55), 3) := dk_167 255 201 (dk_at dksX2_digits_2 16 rfl rfl)
theorem dX2_digits_65 : decode cX2_digits 65 = .ok (.iload_n 1, 1) := dk_27 (dk_at dksX2_digits_2 19 rfl rfl)
theorem dX2_digits_66 : decode cX2_digits 66 = .ok (.iconst 5, 1) := dk_8 (dk_at dksX2_digits_2 20 rfl rfl)
theorem dX2_digits_67 : decode cX2_digits 67 = .ok (.if_icmp .ge 8, 3) := dk_162 0 8 (dk_at dksX2_digits_2 21 rfl rfl)
theorem dX2_digits_70 : decode cX2_digits 70 = .ok (.aload_n 0, 1) := dk_42 (dk_at dksX2_digits_3 0 rfl rfl)
theorem dX2_digits_71 : decode cX2_digits 71 = .ok (.iconst 3, 1) := dk_6 (dk_at dksX2_digits_3 1 rfl rfl)
theorem dX2_digits_72 : decode cX2_digits 72 = .ok (.putfield 33, 3) := dk_181 0 33 (dk_at dksX2_digits_3 2 rfl rfl)
theorem dX2_digits_75 : decode cX2_digits 75 = .ok (.return_, 1) := dk_177 (dk_at dksX2_digits_3 5 rfl rfl)
abbrev cX2_line : ByteArray := prog_18_method_14_code
def yX2_line : MethodName := ⟨RX2, "line", "(I)LCliffHoney$Line;"⟩
def dkwX2_line_8 : List UInt8 := [176]
abbrev dktX2_line_8 : List UInt8 := dkwX2_line_8 ++ []
def dkwX2_line_7 : List UInt8 := [3, 16, 9, 182, 0, 140, 183, 0, 149, 176, 187, 0, 150, 89, 42, 3, 16, 20, 182, 0, 140, 183, 0, 152]
abbrev dktX2_line_7 : List UInt8 := dkwX2_line_7 ++ dktX2_line_8
def dkwX2_line_6 : List UInt8 := [182, 0, 96, 187, 0, 138, 89, 28, 42, 3, 16, 99, 182, 0, 140, 183, 0, 144, 176, 187, 0, 147, 89, 42]
abbrev dktX2_line_6 : List UInt8 := dkwX2_line_6 ++ dktX2_line_7
def dkwX2_line_5 : List UInt8 := [16, 8, 16, 11, 184, 0, 92, 154, 0, 8, 42, 182, 0, 88, 191, 42, 180, 0, 57, 16, 8, 100, 61, 42]
abbrev dktX2_line_5 : List UInt8 := dkwX2_line_5 ++ dktX2_line_6
def dkwX2_line_4 : List UInt8 := [187, 0, 133, 89, 42, 182, 0, 127, 183, 0, 135, 176, 42, 180, 0, 33, 5, 160, 0, 17, 42, 180, 0, 57]
abbrev dktX2_line_4 : List UInt8 := dkwX2_line_4 ++ dktX2_line_5
def dkwX2_line_3 : List UInt8 := [167, 0, 4, 1, 183, 0, 130, 176, 42, 16, 17, 182, 0, 124, 154, 0, 8, 42, 182, 0, 88, 191]
abbrev dktX2_line_3 : List UInt8 := dkwX2_line_3 ++ dktX2_line_4
def dkwX2_line_2 : List UInt8 := [42, 182, 0, 118, 77, 187, 0, 122, 89, 44, 42, 16, 17, 182, 0, 124, 153, 0, 10, 42, 182, 0, 127]
abbrev dktX2_line_2 : List UInt8 := dkwX2_line_2 ++ dktX2_line_3
def dkwX2_line_1 : List UInt8 := [170, 0, 0, 0, 0, 0, 158, 0, 0, 0, 12, 0, 0, 0, 15, 0, 0, 0, 31, 0, 0, 0, 62, 0, 0, 0, 88, 0, 0, 0, 143]
abbrev dktX2_line_1 : List UInt8 := dkwX2_line_1 ++ dktX2_line_2
def dkwX2_line_0 : List UInt8 := [27]
abbrev dktX2_line_0 : List UInt8 := dkwX2_line_0 ++ dktX2_line_1
theorem dksX2_line_0 : cX2_line.data.toList.drop 0 = dktX2_line_0 := by decide +kernel
theorem dksX2_line_1 : cX2_line.data.toList.drop 1 = dktX2_line_1 := dk_seg dksX2_line_0 1 rfl rfl
theorem dksX2_line_2 : cX2_line.data.toList.drop 32 = dktX2_line_2 := dk_seg dksX2_line_1 31 rfl rfl
theorem dksX2_line_3 : cX2_line.data.toList.drop 55 = dktX2_line_3 := dk_seg dksX2_line_2 23 rfl rfl
theorem dksX2_line_4 : cX2_line.data.toList.drop 77 = dktX2_line_4 := dk_seg dksX2_line_3 22 rfl rfl
theorem dksX2_line_5 : cX2_line.data.toList.drop 101 = dktX2_line_5 := dk_seg dksX2_line_4 24 rfl rfl
theorem dksX2_line_6 : cX2_line.data.toList.drop 125 = dktX2_line_6 := dk_seg dksX2_line_5 24 rfl rfl
theorem dksX2_line_7 : cX2_line.data.toList.drop 149 = dktX2_line_7 := dk_seg dksX2_line_6 24 rfl rfl
theorem dksX2_line_8 : cX2_line.data.toList.drop 173 = dktX2_line_8 := dk_seg dksX2_line_7 24 rfl rfl
theorem dX2_line_0 : decode cX2_line 0 = .ok (.iload_n 1, 1) := dk_27 (dk_at dksX2_line_0 0 rfl rfl)
theorem dX2_line_1 : decode cX2_line 1 = .ok (.tableswitch 158 12 15 #[31, 62, 88, 143], 31) := by decide +kernel
theorem dX2_line_32 : decode cX2_line 32 = .ok (.aload_n 0, 1) := dk_42 (dk_at dksX2_line_2 0 rfl rfl)
theorem dX2_line_33 : decode cX2_line 33 = .ok (.invokevirtual 118, 3) := dk_182 0 118 (dk_at dksX2_line_2 1 rfl rfl)
theorem dX2_line_36 : decode cX2_line 36 = .ok (.astore_n 2, 1) := dk_77 (dk_at dksX2_line_2 4 rfl rfl)
theorem dX2_line_37 : decode cX2_line 37 = .ok (.new 122, 3) := dk_187 0 122 (dk_at dksX2_line_2 5 rfl rfl)
theorem dX2_line_40 : decode cX2_line 40 = .ok (.dup, 1) := dk_89 (dk_at dksX2_line_2 8 rfl rfl)
theorem dX2_line_41 : decode cX2_line 41 = .ok (.aload_n 2, 1) := dk_44 (dk_at dksX2_line_2 9 rfl rfl)
theorem dX2_line_42 : decode cX2_line 42 = .ok (.aload_n 0, 1) := dk_42 (dk_at dksX2_line_2 10 rfl rfl)
theorem dX2_line_43 : decode cX2_line 43 = .ok (.bipush 17, 2) := dk_16 17 (dk_at dksX2_line_2 11 rfl rfl)
theorem dX2_line_45 : decode cX2_line 45 = .ok (.invokevirtual 124, 3) := dk_182 0 124 (dk_at dksX2_line_2 13 rfl rfl)
theorem dX2_line_48 : decode cX2_line 48 = .ok (.ifCond .eq 10, 3) := dk_153 0 10 (dk_at dksX2_line_2 16 rfl rfl)
theorem dX2_line_51 : decode cX2_line 51 = .ok (.aload_n 0, 1) := dk_42 (dk_at dksX2_line_2 19 rfl rfl)
theorem dX2_line_52 : decode cX2_line 52 = .ok (.invokevirtual 127, 3) := dk_182 0 127 (dk_at dksX2_line_2 20 rfl rfl)
theorem dX2_line_55 : decode cX2_line 55 = .ok (.goto 4, 3) := dk_167 0 4 (dk_at dksX2_line_3 0 rfl rfl)
theorem dX2_line_58 : decode cX2_line 58 = .ok (.aconst_null, 1) := dk_1 (dk_at dksX2_line_3 3 rfl rfl)
theorem dX2_line_59 : decode cX2_line 59 = .ok (.invokespecial 130, 3) := dk_183 0 130 (dk_at dksX2_line_3 4 rfl rfl)
theorem dX2_line_62 : decode cX2_line 62 = .ok (.areturn, 1) := dk_176 (dk_at dksX2_line_3 7 rfl rfl)
theorem dX2_line_63 : decode cX2_line 63 = .ok (.aload_n 0, 1) := dk_42 (dk_at dksX2_line_3 8 rfl rfl)
theorem dX2_line_64 : decode cX2_line 64 = .ok (.bipush 17, 2) := dk_16 17 (dk_at dksX2_line_3 9 rfl rfl)
theorem dX2_line_66 : decode cX2_line 66 = .ok (.invokevirtual 124, 3) := dk_182 0 124 (dk_at dksX2_line_3 11 rfl rfl)
theorem dX2_line_69 : decode cX2_line 69 = .ok (.ifCond .ne 8, 3) := dk_154 0 8 (dk_at dksX2_line_3 14 rfl rfl)
theorem dX2_line_72 : decode cX2_line 72 = .ok (.aload_n 0, 1) := dk_42 (dk_at dksX2_line_3 17 rfl rfl)
theorem dX2_line_73 : decode cX2_line 73 = .ok (.invokevirtual 88, 3) := dk_182 0 88 (dk_at dksX2_line_3 18 rfl rfl)
theorem dX2_line_76 : decode cX2_line 76 = .ok (.athrow, 1) := dk_191 (dk_at dksX2_line_3 21 rfl rfl)
theorem dX2_line_77 : decode cX2_line 77 = .ok (.new 133, 3) := dk_187 0 133 (dk_at dksX2_line_4 0 rfl rfl)
theorem dX2_line_80 : decode cX2_line 80 = .ok (.dup, 1) := dk_89 (dk_at dksX2_line_4 3 rfl rfl)
theorem dX2_line_81 : decode cX2_line 81 = .ok (.aload_n 0, 1) := dk_42 (dk_at dksX2_line_4 4 rfl rfl)
theorem dX2_line_82 : decode cX2_line 82 = .ok (.invokevirtual 127, 3) := dk_182 0 127 (dk_at dksX2_line_4 5 rfl rfl)
theorem dX2_line_85 : decode cX2_line 85 = .ok (.invokespecial 135, 3) := dk_183 0 135 (dk_at dksX2_line_4 8 rfl rfl)
theorem dX2_line_88 : decode cX2_line 88 = .ok (.areturn, 1) := dk_176 (dk_at dksX2_line_4 11 rfl rfl)
theorem dX2_line_89 : decode cX2_line 89 = .ok (.aload_n 0, 1) := dk_42 (dk_at dksX2_line_4 12 rfl rfl)
theorem dX2_line_90 : decode cX2_line 90 = .ok (.getfield 33, 3) := dk_180 0 33 (dk_at dksX2_line_4 13 rfl rfl)
theorem dX2_line_93 : decode cX2_line 93 = .ok (.iconst 2, 1) := dk_5 (dk_at dksX2_line_4 16 rfl rfl)
theorem dX2_line_94 : decode cX2_line 94 = .ok (.if_icmp .ne 17, 3) := dk_160 0 17 (dk_at dksX2_line_4 17 rfl rfl)
theorem dX2_line_97 : decode cX2_line 97 = .ok (.aload_n 0, 1) := dk_42 (dk_at dksX2_line_4 20 rfl rfl)
theorem dX2_line_98 : decode cX2_line 98 = .ok (.getfield 57, 3) := dk_180 0 57 (dk_at dksX2_line_4 21 rfl rfl)
theorem dX2_line_101 : decode cX2_line 101 = .ok (.bipush 8, 2) := dk_16 8 (dk_at dksX2_line_5 0 rfl rfl)
theorem dX2_line_103 : decode cX2_line 103 = .ok (.bipush 11, 2) := dk_16 11 (dk_at dksX2_line_5 2 rfl rfl)
theorem dX2_line_105 : decode cX2_line 105 = .ok (.invokestatic 92, 3) := dk_184 0 92 (dk_at dksX2_line_5 4 rfl rfl)
theorem dX2_line_108 : decode cX2_line 108 = .ok (.ifCond .ne 8, 3) := dk_154 0 8 (dk_at dksX2_line_5 7 rfl rfl)
theorem dX2_line_111 : decode cX2_line 111 = .ok (.aload_n 0, 1) := dk_42 (dk_at dksX2_line_5 10 rfl rfl)
theorem dX2_line_112 : decode cX2_line 112 = .ok (.invokevirtual 88, 3) := dk_182 0 88 (dk_at dksX2_line_5 11 rfl rfl)
theorem dX2_line_115 : decode cX2_line 115 = .ok (.athrow, 1) := dk_191 (dk_at dksX2_line_5 14 rfl rfl)
theorem dX2_line_116 : decode cX2_line 116 = .ok (.aload_n 0, 1) := dk_42 (dk_at dksX2_line_5 15 rfl rfl)
theorem dX2_line_117 : decode cX2_line 117 = .ok (.getfield 57, 3) := dk_180 0 57 (dk_at dksX2_line_5 16 rfl rfl)
theorem dX2_line_120 : decode cX2_line 120 = .ok (.bipush 8, 2) := dk_16 8 (dk_at dksX2_line_5 19 rfl rfl)
theorem dX2_line_122 : decode cX2_line 122 = .ok (.isub, 1) := dk_100 (dk_at dksX2_line_5 21 rfl rfl)
theorem dX2_line_123 : decode cX2_line 123 = .ok (.istore_n 2, 1) := dk_61 (dk_at dksX2_line_5 22 rfl rfl)
theorem dX2_line_124 : decode cX2_line 124 = .ok (.aload_n 0, 1) := dk_42 (dk_at dksX2_line_5 23 rfl rfl)
theorem dX2_line_125 : decode cX2_line 125 = .ok (.invokevirtual 96, 3) := dk_182 0 96 (dk_at dksX2_line_6 0 rfl rfl)
theorem dX2_line_128 : decode cX2_line 128 = .ok (.new 138, 3) := dk_187 0 138 (dk_at dksX2_line_6 3 rfl rfl)
theorem dX2_line_131 : decode cX2_line 131 = .ok (.dup, 1) := dk_89 (dk_at dksX2_line_6 6 rfl rfl)
theorem dX2_line_132 : decode cX2_line 132 = .ok (.iload_n 2, 1) := dk_28 (dk_at dksX2_line_6 7 rfl rfl)
theorem dX2_line_133 : decode cX2_line 133 = .ok (.aload_n 0, 1) := dk_42 (dk_at dksX2_line_6 8 rfl rfl)
theorem dX2_line_134 : decode cX2_line 134 = .ok (.iconst 0, 1) := dk_3 (dk_at dksX2_line_6 9 rfl rfl)
theorem dX2_line_135 : decode cX2_line 135 = .ok (.bipush 99, 2) := dk_16 99 (dk_at dksX2_line_6 10 rfl rfl)
theorem dX2_line_137 : decode cX2_line 137 = .ok (.invokevirtual 140, 3) := dk_182 0 140 (dk_at dksX2_line_6 12 rfl rfl)
theorem dX2_line_140 : decode cX2_line 140 = .ok (.invokespecial 144, 3) := dk_183 0 144 (dk_at dksX2_line_6 15 rfl rfl)
theorem dX2_line_143 : decode cX2_line 143 = .ok (.areturn, 1) := dk_176 (dk_at dksX2_line_6 18 rfl rfl)
theorem dX2_line_144 : decode cX2_line 144 = .ok (.new 147, 3) := dk_187 0 147 (dk_at dksX2_line_6 19 rfl rfl)
theorem dX2_line_147 : decode cX2_line 147 = .ok (.dup, 1) := dk_89 (dk_at dksX2_line_6 22 rfl rfl)
theorem dX2_line_148 : decode cX2_line 148 = .ok (.aload_n 0, 1) := dk_42 (dk_at dksX2_line_6 23 rfl rfl)
theorem dX2_line_149 : decode cX2_line 149 = .ok (.iconst 0, 1) := dk_3 (dk_at dksX2_line_7 0 rfl rfl)
theorem dX2_line_150 : decode cX2_line 150 = .ok (.bipush 9, 2) := dk_16 9 (dk_at dksX2_line_7 1 rfl rfl)
theorem dX2_line_152 : decode cX2_line 152 = .ok (.invokevirtual 140, 3) := dk_182 0 140 (dk_at dksX2_line_7 3 rfl rfl)
theorem dX2_line_155 : decode cX2_line 155 = .ok (.invokespecial 149, 3) := dk_183 0 149 (dk_at dksX2_line_7 6 rfl rfl)
theorem dX2_line_158 : decode cX2_line 158 = .ok (.areturn, 1) := dk_176 (dk_at dksX2_line_7 9 rfl rfl)
theorem dX2_line_159 : decode cX2_line 159 = .ok (.new 150, 3) := dk_187 0 150 (dk_at dksX2_line_7 10 rfl rfl)
theorem dX2_line_162 : decode cX2_line 162 = .ok (.dup, 1) := dk_89 (dk_at dksX2_line_7 13 rfl rfl)
theorem dX2_line_163 : decode cX2_line 163 = .ok (.aload_n 0, 1) := dk_42 (dk_at dksX2_line_7 14 rfl rfl)
theorem dX2_line_164 : decode cX2_line 164 = .ok (.iconst 0, 1) := dk_3 (dk_at dksX2_line_7 15 rfl rfl)
theorem dX2_line_165 : decode cX2_line 165 = .ok (.bipush 20, 2) := dk_16 20 (dk_at dksX2_line_7 16 rfl rfl)
theorem dX2_line_167 : decode cX2_line 167 = .ok (.invokevirtual 140, 3) := dk_182 0 140 (dk_at dksX2_line_7 18 rfl rfl)
theorem dX2_line_170 : decode cX2_line 170 = .ok (.invokespecial 152, 3) := dk_183 0 152 (dk_at dksX2_line_7 21 rfl rfl)
theorem dX2_line_173 : decode cX2_line 173 = .ok (.areturn, 1) := dk_176 (dk_at dksX2_line_8 0 rfl rfl)
abbrev cX2_sum : ByteArray := prog_18_method_18_code
def yX2_sum : MethodName := ⟨RX2, "sum", "()LCliffHoney$Term;"⟩
def dkwX2_sum_2 : List UInt8 := [167, 255, 214, 43, 176]
abbrev dktX2_sum_2 : List UInt8 := dkwX2_sum_2 ++ []
def dkwX2_sum_1 : List UInt8 := [180, 0, 57, 146, 61, 42, 182, 0, 96, 187, 0, 156, 89, 43, 28, 42, 182, 0, 170, 183, 0, 158, 76]
abbrev dktX2_sum_1 : List UInt8 := dkwX2_sum_1 ++ dktX2_sum_2
def dkwX2_sum_0 : List UInt8 := [42, 182, 0, 170, 76, 42, 16, 43, 182, 0, 115, 154, 0, 12, 42, 16, 45, 182, 0, 115, 153, 0, 30, 42]
abbrev dktX2_sum_0 : List UInt8 := dkwX2_sum_0 ++ dktX2_sum_1
theorem dksX2_sum_0 : cX2_sum.data.toList.drop 0 = dktX2_sum_0 := by decide +kernel
theorem dksX2_sum_1 : cX2_sum.data.toList.drop 24 = dktX2_sum_1 := dk_seg dksX2_sum_0 24 rfl rfl
theorem dksX2_sum_2 : cX2_sum.data.toList.drop 47 = dktX2_sum_2 := dk_seg dksX2_sum_1 23 rfl rfl
theorem dX2_sum_0 : decode cX2_sum 0 = .ok (.aload_n 0, 1) := dk_42 (dk_at dksX2_sum_0 0 rfl rfl)
theorem dX2_sum_1 : decode cX2_sum 1 = .ok (.invokevirtual 170, 3) := dk_182 0 170 (dk_at dksX2_sum_0 1 rfl rfl)
theorem dX2_sum_4 : decode cX2_sum 4 = .ok (.astore_n 1, 1) := dk_76 (dk_at dksX2_sum_0 4 rfl rfl)
theorem dX2_sum_5 : decode cX2_sum 5 = .ok (.aload_n 0, 1) := dk_42 (dk_at dksX2_sum_0 5 rfl rfl)
theorem dX2_sum_6 : decode cX2_sum 6 = .ok (.bipush 43, 2) := dk_16 43 (dk_at dksX2_sum_0 6 rfl rfl)
theorem dX2_sum_8 : decode cX2_sum 8 = .ok (.invokevirtual 115, 3) := dk_182 0 115 (dk_at dksX2_sum_0 8 rfl rfl)
theorem dX2_sum_11 : decode cX2_sum 11 = .ok (.ifCond .ne 12, 3) := dk_154 0 12 (dk_at dksX2_sum_0 11 rfl rfl)
theorem dX2_sum_14 : decode cX2_sum 14 = .ok (.aload_n 0, 1) := dk_42 (dk_at dksX2_sum_0 14 rfl rfl)
theorem dX2_sum_15 : decode cX2_sum 15 = .ok (.bipush 45, 2) := dk_16 45 (dk_at dksX2_sum_0 15 rfl rfl)
theorem dX2_sum_17 : decode cX2_sum 17 = .ok (.invokevirtual 115, 3) := dk_182 0 115 (dk_at dksX2_sum_0 17 rfl rfl)
theorem dX2_sum_20 : decode cX2_sum 20 = .ok (.ifCond .eq 30, 3) := dk_153 0 30 (dk_at dksX2_sum_0 20 rfl rfl)
theorem dX2_sum_23 : decode cX2_sum 23 = .ok (.aload_n 0, 1) := dk_42 (dk_at dksX2_sum_0 23 rfl rfl)
theorem dX2_sum_24 : decode cX2_sum 24 = .ok (.getfield 57, 3) := dk_180 0 57 (dk_at dksX2_sum_1 0 rfl rfl)
theorem dX2_sum_27 : decode cX2_sum 27 = .ok (.i2c, 1) := dk_146 (dk_at dksX2_sum_1 3 rfl rfl)
theorem dX2_sum_28 : decode cX2_sum 28 = .ok (.istore_n 2, 1) := dk_61 (dk_at dksX2_sum_1 4 rfl rfl)
theorem dX2_sum_29 : decode cX2_sum 29 = .ok (.aload_n 0, 1) := dk_42 (dk_at dksX2_sum_1 5 rfl rfl)
theorem dX2_sum_30 : decode cX2_sum 30 = .ok (.invokevirtual 96, 3) := dk_182 0 96 (dk_at dksX2_sum_1 6 rfl rfl)
theorem dX2_sum_33 : decode cX2_sum 33 = .ok (.new 156, 3) := dk_187 0 156 (dk_at dksX2_sum_1 9 rfl rfl)
theorem dX2_sum_36 : decode cX2_sum 36 = .ok (.dup, 1) := dk_89 (dk_at dksX2_sum_1 12 rfl rfl)
theorem dX2_sum_37 : decode cX2_sum 37 = .ok (.aload_n 1, 1) := dk_43 (dk_at dksX2_sum_1 13 rfl rfl)
theorem dX2_sum_38 : decode cX2_sum 38 = .ok (.iload_n 2, 1) := dk_28 (dk_at dksX2_sum_1 14 rfl rfl)
theorem dX2_sum_39 : decode cX2_sum 39 = .ok (.aload_n 0, 1) := dk_42 (dk_at dksX2_sum_1 15 rfl rfl)
theorem dX2_sum_40 : decode cX2_sum 40 = .ok (.invokevirtual 170, 3) := dk_182 0 170 (dk_at dksX2_sum_1 16 rfl rfl)
theorem dX2_sum_43 : decode cX2_sum 43 = .ok (.invokespecial 158, 3) := dk_183 0 158 (dk_at dksX2_sum_1 19 rfl rfl)
theorem dX2_sum_46 : decode cX2_sum 46 = .ok (.astore_n 1, 1) := dk_76 (dk_at dksX2_sum_1 22 rfl rfl)
theorem dX2_sum_47 : decode cX2_sum 47 = .ok (.goto (-42), 3) := dk_167 255 214 (dk_at dksX2_sum_2 0 rfl rfl)
theorem dX2_sum_50 : decode cX2_sum 50 = .ok (.aload_n 1, 1) := dk_43 (dk_at dksX2_sum_2 3 rfl rfl)
theorem dX2_sum_51 : decode cX2_sum 51 = .ok (.areturn, 1) := dk_176 (dk_at dksX2_sum_2 4 rfl rfl)
abbrev cX2_product : ByteArray := prog_18_method_19_code
def yX2_product : MethodName := ⟨RX2, "product", "()LCliffHoney$Term;"⟩
def dkwX2_product_3 : List UInt8 := [76, 167, 255, 190, 43, 176]
abbrev dktX2_product_3 : List UInt8 := dkwX2_product_3 ++ []
def dkwX2_product_2 : List UInt8 := [182, 0, 173, 167, 0, 18, 187, 0, 176, 89, 42, 4, 17, 39, 15, 182, 0, 140, 183, 0, 178, 183, 0, 158]
abbrev dktX2_product_2 : List UInt8 := dkwX2_product_2 ++ dktX2_product_3
def dkwX2_product_1 : List UInt8 := [180, 0, 57, 146, 61, 42, 182, 0, 96, 187, 0, 156, 89, 43, 28, 28, 16, 42, 160, 0, 10, 42]
abbrev dktX2_product_1 : List UInt8 := dkwX2_product_1 ++ dktX2_product_2
def dkwX2_product_0 : List UInt8 := [42, 182, 0, 173, 76, 42, 16, 42, 182, 0, 115, 154, 0, 12, 42, 16, 47, 182, 0, 115, 153, 0, 54, 42]
abbrev dktX2_product_0 : List UInt8 := dkwX2_product_0 ++ dktX2_product_1
theorem dksX2_product_0 : cX2_product.data.toList.drop 0 = dktX2_product_0 := by decide +kernel
theorem dksX2_product_1 : cX2_product.data.toList.drop 24 = dktX2_product_1 := dk_seg dksX2_product_0 24 rfl rfl
theorem dksX2_product_2 : cX2_product.data.toList.drop 46 = dktX2_product_2 := dk_seg dksX2_product_1 22 rfl rfl
theorem dksX2_product_3 : cX2_product.data.toList.drop 70 = dktX2_product_3 := dk_seg dksX2_product_2 24 rfl rfl
theorem dX2_product_0 : decode cX2_product 0 = .ok (.aload_n 0, 1) := dk_42 (dk_at dksX2_product_0 0 rfl rfl)
theorem dX2_product_1 : decode cX2_product 1 = .ok (.invokevirtual 173, 3) := dk_182 0 173 (dk_at dksX2_product_0 1 rfl rfl)
theorem dX2_product_4 : decode cX2_product 4 = .ok (.astore_n 1, 1) := dk_76 (dk_at dksX2_product_0 4 rfl rfl)
theorem dX2_product_5 : decode cX2_product 5 = .ok (.aload_n 0, 1) := dk_42 (dk_at dksX2_product_0 5 rfl rfl)
theorem dX2_product_6 : decode cX2_product 6 = .ok (.bipush 42, 2) := dk_16 42 (dk_at dksX2_product_0 6 rfl rfl)
theorem dX2_product_8 : decode cX2_product 8 = .ok (.invokevirtual 115, 3) := dk_182 0 115 (dk_at dksX2_product_0 8 rfl rfl)
theorem dX2_product_11 : decode cX2_product 11 = .ok (.ifCond .ne 12, 3) := dk_154 0 12 (dk_at dksX2_product_0 11 rfl rfl)
theorem dX2_product_14 : decode cX2_product 14 = .ok (.aload_n 0, 1) := dk_42 (dk_at dksX2_product_0 14 rfl rfl)
theorem dX2_product_15 : decode cX2_product 15 = .ok (.bipush 47, 2) := dk_16 47 (dk_at dksX2_product_0 15 rfl rfl)
theorem dX2_product_17 : decode cX2_product 17 = .ok (.invokevirtual 115, 3) := dk_182 0 115 (dk_at dksX2_product_0 17 rfl rfl)
theorem dX2_product_20 : decode cX2_product 20 = .ok (.ifCond .eq 54, 3) := dk_153 0 54 (dk_at dksX2_product_0 20 rfl rfl)
theorem dX2_product_23 : decode cX2_product 23 = .ok (.aload_n 0, 1) := dk_42 (dk_at dksX2_product_0 23 rfl rfl)
theorem dX2_product_24 : decode cX2_product 24 = .ok (.getfield 57, 3) := dk_180 0 57 (dk_at dksX2_product_1 0 rfl rfl)
theorem dX2_product_27 : decode cX2_product 27 = .ok (.i2c, 1) := dk_146 (dk_at dksX2_product_1 3 rfl rfl)
theorem dX2_product_28 : decode cX2_product 28 = .ok (.istore_n 2, 1) := dk_61 (dk_at dksX2_product_1 4 rfl rfl)
theorem dX2_product_29 : decode cX2_product 29 = .ok (.aload_n 0, 1) := dk_42 (dk_at dksX2_product_1 5 rfl rfl)
theorem dX2_product_30 : decode cX2_product 30 = .ok (.invokevirtual 96, 3) := dk_182 0 96 (dk_at dksX2_product_1 6 rfl rfl)
theorem dX2_product_33 : decode cX2_product 33 = .ok (.new 156, 3) := dk_187 0 156 (dk_at dksX2_product_1 9 rfl rfl)
theorem dX2_product_36 : decode cX2_product 36 = .ok (.dup, 1) := dk_89 (dk_at dksX2_product_1 12 rfl rfl)
theorem dX2_product_37 : decode cX2_product 37 = .ok (.aload_n 1, 1) := dk_43 (dk_at dksX2_product_1 13 rfl rfl)
theorem dX2_product_38 : decode cX2_product 38 = .ok (.iload_n 2, 1) := dk_28 (dk_at dksX2_product_1 14 rfl rfl)
theorem dX2_product_39 : decode cX2_product 39 = .ok (.iload_n 2, 1) := dk_28 (dk_at dksX2_product_1 15 rfl rfl)
theorem dX2_product_40 : decode cX2_product 40 = .ok (.bipush 42, 2) := dk_16 42 (dk_at dksX2_product_1 16 rfl rfl)
theorem dX2_product_42 : decode cX2_product 42 = .ok (.if_icmp .ne 10, 3) := dk_160 0 10 (dk_at dksX2_product_1 18 rfl rfl)
theorem dX2_product_45 : decode cX2_product 45 = .ok (.aload_n 0, 1) := dk_42 (dk_at dksX2_product_1 21 rfl rfl)
theorem dX2_product_46 : decode cX2_product 46 = .ok (.invokevirtual 173, 3) := dk_182 0 173 (dk_at dksX2_product_2 0 rfl rfl)
theorem dX2_product_49 : decode cX2_product 49 = .ok (.goto 18, 3) := dk_167 0 18 (dk_at dksX2_product_2 3 rfl rfl)
theorem dX2_product_52 : decode cX2_product 52 = .ok (.new 176, 3) := dk_187 0 176 (dk_at dksX2_product_2 6 rfl rfl)
theorem dX2_product_55 : decode cX2_product 55 = .ok (.dup, 1) := dk_89 (dk_at dksX2_product_2 9 rfl rfl)
theorem dX2_product_56 : decode cX2_product 56 = .ok (.aload_n 0, 1) := dk_42 (dk_at dksX2_product_2 10 rfl rfl)
theorem dX2_product_57 : decode cX2_product 57 = .ok (.iconst 1, 1) := dk_4 (dk_at dksX2_product_2 11 rfl rfl)
theorem dX2_product_58 : decode cX2_product 58 = .ok (.sipush 9999, 3) := dk_17 39 15 (dk_at dksX2_product_2 12 rfl rfl)
theorem dX2_product_61 : decode cX2_product 61 = .ok (.invokevirtual 140, 3) := dk_182 0 140 (dk_at dksX2_product_2 15 rfl rfl)
theorem dX2_product_64 : decode cX2_product 64 = .ok (.invokespecial 178, 3) := dk_183 0 178 (dk_at dksX2_product_2 18 rfl rfl)
theorem dX2_product_67 : decode cX2_product 67 = .ok (.invokespecial 158, 3) := dk_183 0 158 (dk_at dksX2_product_2 21 rfl rfl)
theorem dX2_product_70 : decode cX2_product 70 = .ok (.astore_n 1, 1) := dk_76 (dk_at dksX2_product_3 0 rfl rfl)
theorem dX2_product_71 : decode cX2_product 71 = .ok (.goto (-66), 3) := dk_167 255 190 (dk_at dksX2_product_3 1 rfl rfl)
theorem dX2_product_74 : decode cX2_product 74 = .ok (.aload_n 1, 1) := dk_43 (dk_at dksX2_product_3 4 rfl rfl)
theorem dX2_product_75 : decode cX2_product 75 = .ok (.areturn, 1) := dk_176 (dk_at dksX2_product_3 5 rfl rfl)
abbrev cX2_unit : ByteArray := prog_18_method_20_code
def yX2_unit : MethodName := ⟨RX2, "unit", "()LCliffHoney$Term;"⟩
def dkwX2_unit_5 : List UInt8 := [182, 0, 96, 44, 176]
abbrev dktX2_unit_5 : List UInt8 := dkwX2_unit_5 ++ []
def dkwX2_unit_4 : List UInt8 := [42, 180, 0, 57, 183, 0, 181, 167, 0, 14, 187, 0, 176, 89, 42, 180, 0, 57, 183, 0, 178, 77, 42]
abbrev dktX2_unit_4 : List UInt8 := dkwX2_unit_4 ++ dktX2_unit_5
def dkwX2_unit_3 : List UInt8 := [154, 0, 16, 42, 180, 0, 33, 6, 159, 0, 8, 42, 182, 0, 88, 191, 27, 153, 0, 17, 187, 0, 179, 89]
abbrev dktX2_unit_3 : List UInt8 := dkwX2_unit_3 ++ dktX2_unit_4
def dkwX2_unit_2 : List UInt8 := [42, 180, 0, 33, 5, 160, 0, 16, 42, 180, 0, 57, 16, 8, 162, 0, 7, 4, 167, 0, 4, 3, 60, 27]
abbrev dktX2_unit_2 : List UInt8 := dkwX2_unit_2 ++ dktX2_unit_3
def dkwX2_unit_1 : List UInt8 := [154, 0, 8, 42, 182, 0, 88, 191, 42, 89, 180, 0, 99, 4, 100, 181, 0, 99, 42, 182, 0, 96, 43, 176]
abbrev dktX2_unit_1 : List UInt8 := dkwX2_unit_1 ++ dktX2_unit_2
def dkwX2_unit_0 : List UInt8 := [42, 16, 40, 182, 0, 115, 153, 0, 42, 42, 182, 0, 164, 42, 182, 0, 118, 76, 42, 16, 41, 182, 0, 115]
abbrev dktX2_unit_0 : List UInt8 := dkwX2_unit_0 ++ dktX2_unit_1
theorem dksX2_unit_0 : cX2_unit.data.toList.drop 0 = dktX2_unit_0 := by decide +kernel
theorem dksX2_unit_1 : cX2_unit.data.toList.drop 24 = dktX2_unit_1 := dk_seg dksX2_unit_0 24 rfl rfl
theorem dksX2_unit_2 : cX2_unit.data.toList.drop 48 = dktX2_unit_2 := dk_seg dksX2_unit_1 24 rfl rfl
theorem dksX2_unit_3 : cX2_unit.data.toList.drop 72 = dktX2_unit_3 := dk_seg dksX2_unit_2 24 rfl rfl
theorem dksX2_unit_4 : cX2_unit.data.toList.drop 96 = dktX2_unit_4 := dk_seg dksX2_unit_3 24 rfl rfl
theorem dksX2_unit_5 : cX2_unit.data.toList.drop 119 = dktX2_unit_5 := dk_seg dksX2_unit_4 23 rfl rfl
theorem dX2_unit_0 : decode cX2_unit 0 = .ok (.aload_n 0, 1) := dk_42 (dk_at dksX2_unit_0 0 rfl rfl)
theorem dX2_unit_1 : decode cX2_unit 1 = .ok (.bipush 40, 2) := dk_16 40 (dk_at dksX2_unit_0 1 rfl rfl)
theorem dX2_unit_3 : decode cX2_unit 3 = .ok (.invokevirtual 115, 3) := dk_182 0 115 (dk_at dksX2_unit_0 3 rfl rfl)
theorem dX2_unit_6 : decode cX2_unit 6 = .ok (.ifCond .eq 42, 3) := dk_153 0 42 (dk_at dksX2_unit_0 6 rfl rfl)
theorem dX2_unit_9 : decode cX2_unit 9 = .ok (.aload_n 0, 1) := dk_42 (dk_at dksX2_unit_0 9 rfl rfl)
theorem dX2_unit_10 : decode cX2_unit 10 = .ok (.invokevirtual 164, 3) := dk_182 0 164 (dk_at dksX2_unit_0 10 rfl rfl)
theorem dX2_unit_13 : decode cX2_unit 13 = .ok (.aload_n 0, 1) := dk_42 (dk_at dksX2_unit_0 13 rfl rfl)
theorem dX2_unit_14 : decode cX2_unit 14 = .ok (.invokevirtual 118, 3) := dk_182 0 118 (dk_at dksX2_unit_0 14 rfl rfl)
theorem dX2_unit_17 : decode cX2_unit 17 = .ok (.astore_n 1, 1) := dk_76 (dk_at dksX2_unit_0 17 rfl rfl)
theorem dX2_unit_18 : decode cX2_unit 18 = .ok (.aload_n 0, 1) := dk_42 (dk_at dksX2_unit_0 18 rfl rfl)
theorem dX2_unit_19 : decode cX2_unit 19 = .ok (.bipush 41, 2) := dk_16 41 (dk_at dksX2_unit_0 19 rfl rfl)
theorem dX2_unit_21 : decode cX2_unit 21 = .ok (.invokevirtual 115, 3) := dk_182 0 115 (dk_at dksX2_unit_0 21 rfl rfl)
theorem dX2_unit_24 : decode cX2_unit 24 = .ok (.ifCond .ne 8, 3) := dk_154 0 8 (dk_at dksX2_unit_1 0 rfl rfl)
theorem dX2_unit_27 : decode cX2_unit 27 = .ok (.aload_n 0, 1) := dk_42 (dk_at dksX2_unit_1 3 rfl rfl)
theorem dX2_unit_28 : decode cX2_unit 28 = .ok (.invokevirtual 88, 3) := dk_182 0 88 (dk_at dksX2_unit_1 4 rfl rfl)
theorem dX2_unit_31 : decode cX2_unit 31 = .ok (.athrow, 1) := dk_191 (dk_at dksX2_unit_1 7 rfl rfl)
theorem dX2_unit_32 : decode cX2_unit 32 = .ok (.aload_n 0, 1) := dk_42 (dk_at dksX2_unit_1 8 rfl rfl)
theorem dX2_unit_33 : decode cX2_unit 33 = .ok (.dup, 1) := dk_89 (dk_at dksX2_unit_1 9 rfl rfl)
theorem dX2_unit_34 : decode cX2_unit 34 = .ok (.getfield 99, 3) := dk_180 0 99 (dk_at dksX2_unit_1 10 rfl rfl)
theorem dX2_unit_37 : decode cX2_unit 37 = .ok (.iconst 1, 1) := dk_4 (dk_at dksX2_unit_1 13 rfl rfl)
theorem dX2_unit_38 : decode cX2_unit 38 = .ok (.isub, 1) := dk_100 (dk_at dksX2_unit_1 14 rfl rfl)
theorem dX2_unit_39 : decode cX2_unit 39 = .ok (.putfield 99, 3) := dk_181 0 99 (dk_at dksX2_unit_1 15 rfl rfl)
theorem dX2_unit_42 : decode cX2_unit 42 = .ok (.aload_n 0, 1) := dk_42 (dk_at dksX2_unit_1 18 rfl rfl)
theorem dX2_unit_43 : decode cX2_unit 43 = .ok (.invokevirtual 96, 3) := dk_182 0 96 (dk_at dksX2_unit_1 19 rfl rfl)
theorem dX2_unit_46 : decode cX2_unit 46 = .ok (.aload_n 1, 1) := dk_43 (dk_at dksX2_unit_1 22 rfl rfl)
theorem dX2_unit_47 : decode cX2_unit 47 = .ok (.areturn, 1) := dk_176 (dk_at dksX2_unit_1 23 rfl rfl)
theorem dX2_unit_48 : decode cX2_unit 48 = .ok (.aload_n 0, 1) := dk_42 (dk_at dksX2_unit_2 0 rfl rfl)
theorem dX2_unit_49 : decode cX2_unit 49 = .ok (.getfield 33, 3) := dk_180 0 33 (dk_at dksX2_unit_2 1 rfl rfl)
theorem dX2_unit_52 : decode cX2_unit 52 = .ok (.iconst 2, 1) := dk_5 (dk_at dksX2_unit_2 4 rfl rfl)
theorem dX2_unit_53 : decode cX2_unit 53 = .ok (.if_icmp .ne 16, 3) := dk_160 0 16 (dk_at dksX2_unit_2 5 rfl rfl)
theorem dX2_unit_56 : decode cX2_unit 56 = .ok (.aload_n 0, 1) := dk_42 (dk_at dksX2_unit_2 8 rfl rfl)
theorem dX2_unit_57 : decode cX2_unit 57 = .ok (.getfield 57, 3) := dk_180 0 57 (dk_at dksX2_unit_2 9 rfl rfl)
theorem dX2_unit_60 : decode cX2_unit 60 = .ok (.bipush 8, 2) := dk_16 8 (dk_at dksX2_unit_2 12 rfl rfl)
theorem dX2_unit_62 : decode cX2_unit 62 = .ok (.if_icmp .ge 7, 3) := dk_162 0 7 (dk_at dksX2_unit_2 14 rfl rfl)
theorem dX2_unit_65 : decode cX2_unit 65 = .ok (.iconst 1, 1) := dk_4 (dk_at dksX2_unit_2 17 rfl rfl)
theorem dX2_unit_66 : decode cX2_unit 66 = .ok (.goto 4, 3) := dk_167 0 4 (dk_at dksX2_unit_2 18 rfl rfl)
theorem dX2_unit_69 : decode cX2_unit 69 = .ok (.iconst 0, 1) := dk_3 (dk_at dksX2_unit_2 21 rfl rfl)
theorem dX2_unit_70 : decode cX2_unit 70 = .ok (.istore_n 1, 1) := dk_60 (dk_at dksX2_unit_2 22 rfl rfl)
theorem dX2_unit_71 : decode cX2_unit 71 = .ok (.iload_n 1, 1) := dk_27 (dk_at dksX2_unit_2 23 rfl rfl)
theorem dX2_unit_72 : decode cX2_unit 72 = .ok (.ifCond .ne 16, 3) := dk_154 0 16 (dk_at dksX2_unit_3 0 rfl rfl)
theorem dX2_unit_75 : decode cX2_unit 75 = .ok (.aload_n 0, 1) := dk_42 (dk_at dksX2_unit_3 3 rfl rfl)
theorem dX2_unit_76 : decode cX2_unit 76 = .ok (.getfield 33, 3) := dk_180 0 33 (dk_at dksX2_unit_3 4 rfl rfl)
theorem dX2_unit_79 : decode cX2_unit 79 = .ok (.iconst 3, 1) := dk_6 (dk_at dksX2_unit_3 7 rfl rfl)
theorem dX2_unit_80 : decode cX2_unit 80 = .ok (.if_icmp .eq 8, 3) := dk_159 0 8 (dk_at dksX2_unit_3 8 rfl rfl)
theorem dX2_unit_83 : decode cX2_unit 83 = .ok (.aload_n 0, 1) := dk_42 (dk_at dksX2_unit_3 11 rfl rfl)
theorem dX2_unit_84 : decode cX2_unit 84 = .ok (.invokevirtual 88, 3) := dk_182 0 88 (dk_at dksX2_unit_3 12 rfl rfl)
theorem dX2_unit_87 : decode cX2_unit 87 = .ok (.athrow, 1) := dk_191 (dk_at dksX2_unit_3 15 rfl rfl)
theorem dX2_unit_88 : decode cX2_unit 88 = .ok (.iload_n 1, 1) := dk_27 (dk_at dksX2_unit_3 16 rfl rfl)
theorem dX2_unit_89 : decode cX2_unit 89 = .ok (.ifCond .eq 17, 3) := dk_153 0 17 (dk_at dksX2_unit_3 17 rfl rfl)
theorem dX2_unit_92 : decode cX2_unit 92 = .ok (.new 179, 3) := dk_187 0 179 (dk_at dksX2_unit_3 20 rfl rfl)
theorem dX2_unit_95 : decode cX2_unit 95 = .ok (.dup, 1) := dk_89 (dk_at dksX2_unit_3 23 rfl rfl)
theorem dX2_unit_96 : decode cX2_unit 96 = .ok (.aload_n 0, 1) := dk_42 (dk_at dksX2_unit_4 0 rfl rfl)
theorem dX2_unit_97 : decode cX2_unit 97 = .ok (.getfield 57, 3) := dk_180 0 57 (dk_at dksX2_unit_4 1 rfl rfl)
theorem dX2_unit_100 : decode cX2_unit 100 = .ok (.invokespecial 181, 3) := dk_183 0 181 (dk_at dksX2_unit_4 4 rfl rfl)
theorem dX2_unit_103 : decode cX2_unit 103 = .ok (.goto 14, 3) := dk_167 0 14 (dk_at dksX2_unit_4 7 rfl rfl)
theorem dX2_unit_106 : decode cX2_unit 106 = .ok (.new 176, 3) := dk_187 0 176 (dk_at dksX2_unit_4 10 rfl rfl)
theorem dX2_unit_109 : decode cX2_unit 109 = .ok (.dup, 1) := dk_89 (dk_at dksX2_unit_4 13 rfl rfl)
theorem dX2_unit_110 : decode cX2_unit 110 = .ok (.aload_n 0, 1) := dk_42 (dk_at dksX2_unit_4 14 rfl rfl)
theorem dX2_unit_111 : decode cX2_unit 111 = .ok (.getfield 57, 3) := dk_180 0 57 (dk_at dksX2_unit_4 15 rfl rfl)
theorem dX2_unit_114 : decode cX2_unit 114 = .ok (.invokespecial 178, 3) := dk_183 0 178 (dk_at dksX2_unit_4 18 rfl rfl)
theorem dX2_unit_117 : decode cX2_unit 117 = .ok (.astore_n 2, 1) := dk_77 (dk_at dksX2_unit_4 21 rfl rfl)
theorem dX2_unit_118 : decode cX2_unit 118 = .ok (.aload_n 0, 1) := dk_42 (dk_at dksX2_unit_4 22 rfl rfl)
theorem dX2_unit_119 : decode cX2_unit 119 = .ok (.invokevirtual 96, 3) := dk_182 0 96 (dk_at dksX2_unit_5 0 rfl rfl)
theorem dX2_unit_122 : decode cX2_unit 122 = .ok (.aload_n 2, 1) := dk_44 (dk_at dksX2_unit_5 3 rfl rfl)
theorem dX2_unit_123 : decode cX2_unit 123 = .ok (.areturn, 1) := dk_176 (dk_at dksX2_unit_5 4 rfl rfl)
abbrev cX2_isSign : ByteArray := prog_18_method_9_code
def yX2_isSign : MethodName := ⟨RX2, "isSign", "(I)Z"⟩
def dkwX2_isSign_0 : List UInt8 := [42, 180, 0, 33, 7, 160, 0, 15, 42, 180, 0, 57, 27, 160, 0, 7, 4, 167, 0, 4, 3, 172]
abbrev dktX2_isSign_0 : List UInt8 := dkwX2_isSign_0 ++ []
theorem dksX2_isSign_0 : cX2_isSign.data.toList.drop 0 = dktX2_isSign_0 := by decide +kernel
theorem dX2_isSign_0 : decode cX2_isSign 0 = .ok (.aload_n 0, 1) := dk_42 (dk_at dksX2_isSign_0 0 rfl rfl)
theorem dX2_isSign_1 : decode cX2_isSign 1 = .ok (.getfield 33, 3) := dk_180 0 33 (dk_at dksX2_isSign_0 1 rfl rfl)
theorem dX2_isSign_4 : decode cX2_isSign 4 = .ok (.iconst 4, 1) := dk_7 (dk_at dksX2_isSign_0 4 rfl rfl)
theorem dX2_isSign_5 : decode cX2_isSign 5 = .ok (.if_icmp .ne 15, 3) := dk_160 0 15 (dk_at dksX2_isSign_0 5 rfl rfl)
theorem dX2_isSign_8 : decode cX2_isSign 8 = .ok (.aload_n 0, 1) := dk_42 (dk_at dksX2_isSign_0 8 rfl rfl)
theorem dX2_isSign_9 : decode cX2_isSign 9 = .ok (.getfield 57, 3) := dk_180 0 57 (dk_at dksX2_isSign_0 9 rfl rfl)
theorem dX2_isSign_12 : decode cX2_isSign 12 = .ok (.iload_n 1, 1) := dk_27 (dk_at dksX2_isSign_0 12 rfl rfl)
theorem dX2_isSign_13 : decode cX2_isSign 13 = .ok (.if_icmp .ne 7, 3) := dk_160 0 7 (dk_at dksX2_isSign_0 13 rfl rfl)
theorem dX2_isSign_16 : decode cX2_isSign 16 = .ok (.iconst 1, 1) := dk_4 (dk_at dksX2_isSign_0 16 rfl rfl)
theorem dX2_isSign_17 : decode cX2_isSign 17 = .ok (.goto 4, 3) := dk_167 0 4 (dk_at dksX2_isSign_0 17 rfl rfl)
theorem dX2_isSign_20 : decode cX2_isSign 20 = .ok (.iconst 0, 1) := dk_3 (dk_at dksX2_isSign_0 20 rfl rfl)
theorem dX2_isSign_21 : decode cX2_isSign 21 = .ok (.ireturn, 1) := dk_172 (dk_at dksX2_isSign_0 21 rfl rfl)
abbrev cX2_opens : ByteArray := prog_18_method_12_code
def yX2_opens : MethodName := ⟨RX2, "opens", "()V"⟩
def dkwX2_opens_1 : List UInt8 := [180, 0, 99, 4, 96, 181, 0, 99, 42, 182, 0, 96, 177]
abbrev dktX2_opens_1 : List UInt8 := dkwX2_opens_1 ++ []
def dkwX2_opens_0 : List UInt8 := [42, 180, 0, 99, 16, 8, 160, 0, 16, 42, 180, 0, 3, 6, 42, 180, 0, 30, 182, 0, 84, 191, 42, 89]
abbrev dktX2_opens_0 : List UInt8 := dkwX2_opens_0 ++ dktX2_opens_1
theorem dksX2_opens_0 : cX2_opens.data.toList.drop 0 = dktX2_opens_0 := by decide +kernel
theorem dksX2_opens_1 : cX2_opens.data.toList.drop 24 = dktX2_opens_1 := dk_seg dksX2_opens_0 24 rfl rfl
theorem dX2_opens_0 : decode cX2_opens 0 = .ok (.aload_n 0, 1) := dk_42 (dk_at dksX2_opens_0 0 rfl rfl)
theorem dX2_opens_1 : decode cX2_opens 1 = .ok (.getfield 99, 3) := dk_180 0 99 (dk_at dksX2_opens_0 1 rfl rfl)
theorem dX2_opens_4 : decode cX2_opens 4 = .ok (.bipush 8, 2) := dk_16 8 (dk_at dksX2_opens_0 4 rfl rfl)
theorem dX2_opens_6 : decode cX2_opens 6 = .ok (.if_icmp .ne 16, 3) := dk_160 0 16 (dk_at dksX2_opens_0 6 rfl rfl)
theorem dX2_opens_9 : decode cX2_opens 9 = .ok (.aload_n 0, 1) := dk_42 (dk_at dksX2_opens_0 9 rfl rfl)
theorem dX2_opens_10 : decode cX2_opens 10 = .ok (.getfield 3, 3) := dk_180 0 3 (dk_at dksX2_opens_0 10 rfl rfl)
theorem dX2_opens_13 : decode cX2_opens 13 = .ok (.iconst 3, 1) := dk_6 (dk_at dksX2_opens_0 13 rfl rfl)
theorem dX2_opens_14 : decode cX2_opens 14 = .ok (.aload_n 0, 1) := dk_42 (dk_at dksX2_opens_0 14 rfl rfl)
theorem dX2_opens_15 : decode cX2_opens 15 = .ok (.getfield 30, 3) := dk_180 0 30 (dk_at dksX2_opens_0 15 rfl rfl)
theorem dX2_opens_18 : decode cX2_opens 18 = .ok (.invokevirtual 84, 3) := dk_182 0 84 (dk_at dksX2_opens_0 18 rfl rfl)
theorem dX2_opens_21 : decode cX2_opens 21 = .ok (.athrow, 1) := dk_191 (dk_at dksX2_opens_0 21 rfl rfl)
theorem dX2_opens_22 : decode cX2_opens 22 = .ok (.aload_n 0, 1) := dk_42 (dk_at dksX2_opens_0 22 rfl rfl)
theorem dX2_opens_23 : decode cX2_opens 23 = .ok (.dup, 1) := dk_89 (dk_at dksX2_opens_0 23 rfl rfl)
theorem dX2_opens_24 : decode cX2_opens 24 = .ok (.getfield 99, 3) := dk_180 0 99 (dk_at dksX2_opens_1 0 rfl rfl)
theorem dX2_opens_27 : decode cX2_opens 27 = .ok (.iconst 1, 1) := dk_4 (dk_at dksX2_opens_1 3 rfl rfl)
theorem dX2_opens_28 : decode cX2_opens 28 = .ok (.iadd, 1) := dk_96 (dk_at dksX2_opens_1 4 rfl rfl)
theorem dX2_opens_29 : decode cX2_opens 29 = .ok (.putfield 99, 3) := dk_181 0 99 (dk_at dksX2_opens_1 5 rfl rfl)
theorem dX2_opens_32 : decode cX2_opens 32 = .ok (.aload_n 0, 1) := dk_42 (dk_at dksX2_opens_1 8 rfl rfl)
theorem dX2_opens_33 : decode cX2_opens 33 = .ok (.invokevirtual 96, 3) := dk_182 0 96 (dk_at dksX2_opens_1 9 rfl rfl)
theorem dX2_opens_36 : decode cX2_opens 36 = .ok (.return_, 1) := dk_177 (dk_at dksX2_opens_1 12 rfl rfl)
abbrev cX2_bad : ByteArray := prog_18_method_8_code
def yX2_bad : MethodName := ⟨RX2, "bad", "()LCliffHoney$Fault;"⟩
def dkwX2_bad_0 : List UInt8 := [42, 180, 0, 3, 4, 42, 180, 0, 30, 182, 0, 84, 176]
abbrev dktX2_bad_0 : List UInt8 := dkwX2_bad_0 ++ []
theorem dksX2_bad_0 : cX2_bad.data.toList.drop 0 = dktX2_bad_0 := by decide +kernel
theorem dX2_bad_0 : decode cX2_bad 0 = .ok (.aload_n 0, 1) := dk_42 (dk_at dksX2_bad_0 0 rfl rfl)
theorem dX2_bad_1 : decode cX2_bad 1 = .ok (.getfield 3, 3) := dk_180 0 3 (dk_at dksX2_bad_0 1 rfl rfl)
theorem dX2_bad_4 : decode cX2_bad 4 = .ok (.iconst 1, 1) := dk_4 (dk_at dksX2_bad_0 4 rfl rfl)
theorem dX2_bad_5 : decode cX2_bad 5 = .ok (.aload_n 0, 1) := dk_42 (dk_at dksX2_bad_0 5 rfl rfl)
theorem dX2_bad_6 : decode cX2_bad 6 = .ok (.getfield 30, 3) := dk_180 0 30 (dk_at dksX2_bad_0 6 rfl rfl)
theorem dX2_bad_9 : decode cX2_bad 9 = .ok (.invokevirtual 84, 3) := dk_182 0 84 (dk_at dksX2_bad_0 9 rfl rfl)
theorem dX2_bad_12 : decode cX2_bad 12 = .ok (.areturn, 1) := dk_176 (dk_at dksX2_bad_0 12 rfl rfl)
abbrev cX2_number : ByteArray := prog_18_method_11_code
def yX2_number : MethodName := ⟨RX2, "number", "(II)I"⟩
def dkwX2_number_2 : List UInt8 := [182, 0, 96, 29, 172]
abbrev dktX2_number_2 : List UInt8 := dkwX2_number_2 ++ []
def dkwX2_number_1 : List UInt8 := [154, 0, 16, 42, 180, 0, 3, 5, 42, 180, 0, 30, 182, 0, 84, 191, 42, 180, 0, 57, 62, 42]
abbrev dktX2_number_1 : List UInt8 := dkwX2_number_1 ++ dktX2_number_2
def dkwX2_number_0 : List UInt8 := [42, 180, 0, 33, 6, 159, 0, 8, 42, 182, 0, 88, 191, 42, 180, 0, 57, 27, 28, 184, 0, 92]
abbrev dktX2_number_0 : List UInt8 := dkwX2_number_0 ++ dktX2_number_1
theorem dksX2_number_0 : cX2_number.data.toList.drop 0 = dktX2_number_0 := by decide +kernel
theorem dksX2_number_1 : cX2_number.data.toList.drop 22 = dktX2_number_1 := dk_seg dksX2_number_0 22 rfl rfl
theorem dksX2_number_2 : cX2_number.data.toList.drop 44 = dktX2_number_2 := dk_seg dksX2_number_1 22 rfl rfl
theorem dX2_number_0 : decode cX2_number 0 = .ok (.aload_n 0, 1) := dk_42 (dk_at dksX2_number_0 0 rfl rfl)
theorem dX2_number_1 : decode cX2_number 1 = .ok (.getfield 33, 3) := dk_180 0 33 (dk_at dksX2_number_0 1 rfl rfl)
theorem dX2_number_4 : decode cX2_number 4 = .ok (.iconst 3, 1) := dk_6 (dk_at dksX2_number_0 4 rfl rfl)
theorem dX2_number_5 : decode cX2_number 5 = .ok (.if_icmp .eq 8, 3) := dk_159 0 8 (dk_at dksX2_number_0 5 rfl rfl)
theorem dX2_number_8 : decode cX2_number 8 = .ok (.aload_n 0, 1) := dk_42 (dk_at dksX2_number_0 8 rfl rfl)
theorem dX2_number_9 : decode cX2_number 9 = .ok (.invokevirtual 88, 3) := dk_182 0 88 (dk_at dksX2_number_0 9 rfl rfl)
theorem dX2_number_12 : decode cX2_number 12 = .ok (.athrow, 1) := dk_191 (dk_at dksX2_number_0 12 rfl rfl)
theorem dX2_number_13 : decode cX2_number 13 = .ok (.aload_n 0, 1) := dk_42 (dk_at dksX2_number_0 13 rfl rfl)
theorem dX2_number_14 : decode cX2_number 14 = .ok (.getfield 57, 3) := dk_180 0 57 (dk_at dksX2_number_0 14 rfl rfl)
theorem dX2_number_17 : decode cX2_number 17 = .ok (.iload_n 1, 1) := dk_27 (dk_at dksX2_number_0 17 rfl rfl)
theorem dX2_number_18 : decode cX2_number 18 = .ok (.iload_n 2, 1) := dk_28 (dk_at dksX2_number_0 18 rfl rfl)
theorem dX2_number_19 : decode cX2_number 19 = .ok (.invokestatic 92, 3) := dk_184 0 92 (dk_at dksX2_number_0 19 rfl rfl)
theorem dX2_number_22 : decode cX2_number 22 = .ok (.ifCond .ne 16, 3) := dk_154 0 16 (dk_at dksX2_number_1 0 rfl rfl)
theorem dX2_number_25 : decode cX2_number 25 = .ok (.aload_n 0, 1) := dk_42 (dk_at dksX2_number_1 3 rfl rfl)
theorem dX2_number_26 : decode cX2_number 26 = .ok (.getfield 3, 3) := dk_180 0 3 (dk_at dksX2_number_1 4 rfl rfl)
theorem dX2_number_29 : decode cX2_number 29 = .ok (.iconst 2, 1) := dk_5 (dk_at dksX2_number_1 7 rfl rfl)
theorem dX2_number_30 : decode cX2_number 30 = .ok (.aload_n 0, 1) := dk_42 (dk_at dksX2_number_1 8 rfl rfl)
theorem dX2_number_31 : decode cX2_number 31 = .ok (.getfield 30, 3) := dk_180 0 30 (dk_at dksX2_number_1 9 rfl rfl)
theorem dX2_number_34 : decode cX2_number 34 = .ok (.invokevirtual 84, 3) := dk_182 0 84 (dk_at dksX2_number_1 12 rfl rfl)
theorem dX2_number_37 : decode cX2_number 37 = .ok (.athrow, 1) := dk_191 (dk_at dksX2_number_1 15 rfl rfl)
theorem dX2_number_38 : decode cX2_number 38 = .ok (.aload_n 0, 1) := dk_42 (dk_at dksX2_number_1 16 rfl rfl)
theorem dX2_number_39 : decode cX2_number 39 = .ok (.getfield 57, 3) := dk_180 0 57 (dk_at dksX2_number_1 17 rfl rfl)
theorem dX2_number_42 : decode cX2_number 42 = .ok (.istore_n 3, 1) := dk_62 (dk_at dksX2_number_1 20 rfl rfl)
theorem dX2_number_43 : decode cX2_number 43 = .ok (.aload_n 0, 1) := dk_42 (dk_at dksX2_number_1 21 rfl rfl)
theorem dX2_number_44 : decode cX2_number 44 = .ok (.invokevirtual 96, 3) := dk_182 0 96 (dk_at dksX2_number_2 0 rfl rfl)
theorem dX2_number_47 : decode cX2_number 47 = .ok (.iload_n 3, 1) := dk_29 (dk_at dksX2_number_2 3 rfl rfl)
theorem dX2_number_48 : decode cX2_number 48 = .ok (.ireturn, 1) := dk_172 (dk_at dksX2_number_2 4 rfl rfl)
abbrev cX2_isWord : ByteArray := prog_18_method_10_code
def yX2_isWord : MethodName := ⟨RX2, "isWord", "(I)Z"⟩
def dkwX2_isWord_0 : List UInt8 := [42, 180, 0, 33, 5, 160, 0, 15, 42, 180, 0, 57, 27, 160, 0, 7, 4, 167, 0, 4, 3, 172]
abbrev dktX2_isWord_0 : List UInt8 := dkwX2_isWord_0 ++ []
theorem dksX2_isWord_0 : cX2_isWord.data.toList.drop 0 = dktX2_isWord_0 := by decide +kernel
theorem dX2_isWord_0 : decode cX2_isWord 0 = .ok (.aload_n 0, 1) := dk_42 (dk_at dksX2_isWord_0 0 rfl rfl)
theorem dX2_isWord_1 : decode cX2_isWord 1 = .ok (.getfield 33, 3) := dk_180 0 33 (dk_at dksX2_isWord_0 1 rfl rfl)
theorem dX2_isWord_4 : decode cX2_isWord 4 = .ok (.iconst 2, 1) := dk_5 (dk_at dksX2_isWord_0 4 rfl rfl)
theorem dX2_isWord_5 : decode cX2_isWord 5 = .ok (.if_icmp .ne 15, 3) := dk_160 0 15 (dk_at dksX2_isWord_0 5 rfl rfl)
theorem dX2_isWord_8 : decode cX2_isWord 8 = .ok (.aload_n 0, 1) := dk_42 (dk_at dksX2_isWord_0 8 rfl rfl)
theorem dX2_isWord_9 : decode cX2_isWord 9 = .ok (.getfield 57, 3) := dk_180 0 57 (dk_at dksX2_isWord_0 9 rfl rfl)
theorem dX2_isWord_12 : decode cX2_isWord 12 = .ok (.iload_n 1, 1) := dk_27 (dk_at dksX2_isWord_0 12 rfl rfl)
theorem dX2_isWord_13 : decode cX2_isWord 13 = .ok (.if_icmp .ne 7, 3) := dk_160 0 7 (dk_at dksX2_isWord_0 13 rfl rfl)
theorem dX2_isWord_16 : decode cX2_isWord 16 = .ok (.iconst 1, 1) := dk_4 (dk_at dksX2_isWord_0 16 rfl rfl)
theorem dX2_isWord_17 : decode cX2_isWord 17 = .ok (.goto 4, 3) := dk_167 0 4 (dk_at dksX2_isWord_0 17 rfl rfl)
theorem dX2_isWord_20 : decode cX2_isWord 20 = .ok (.iconst 0, 1) := dk_3 (dk_at dksX2_isWord_0 20 rfl rfl)
theorem dX2_isWord_21 : decode cX2_isWord 21 = .ok (.ireturn, 1) := dk_172 (dk_at dksX2_isWord_0 21 rfl rfl)
abbrev cX2_condition : ByteArray := prog_18_method_15_code
def yX2_condition : MethodName := ⟨RX2, "condition", "()LCliffHoney$Term;"⟩
def dkwX2_condition_1 : List UInt8 := [187, 0, 156, 89, 43, 16, 124, 42, 182, 0, 153, 183, 0, 158, 76, 167, 255, 228, 43, 176]
abbrev dktX2_condition_1 : List UInt8 := dkwX2_condition_1 ++ []
def dkwX2_condition_0 : List UInt8 := [42, 182, 0, 96, 42, 182, 0, 153, 76, 42, 16, 18, 182, 0, 124, 153, 0, 25, 42, 182, 0, 96]
abbrev dktX2_condition_0 : List UInt8 := dkwX2_condition_0 ++ dktX2_condition_1
theorem dksX2_condition_0 : cX2_condition.data.toList.drop 0 = dktX2_condition_0 := by decide +kernel
theorem dksX2_condition_1 : cX2_condition.data.toList.drop 22 = dktX2_condition_1 := dk_seg dksX2_condition_0 22 rfl rfl
theorem dX2_condition_0 : decode cX2_condition 0 = .ok (.aload_n 0, 1) := dk_42 (dk_at dksX2_condition_0 0 rfl rfl)
theorem dX2_condition_1 : decode cX2_condition 1 = .ok (.invokevirtual 96, 3) := dk_182 0 96 (dk_at dksX2_condition_0 1 rfl rfl)
theorem dX2_condition_4 : decode cX2_condition 4 = .ok (.aload_n 0, 1) := dk_42 (dk_at dksX2_condition_0 4 rfl rfl)
theorem dX2_condition_5 : decode cX2_condition 5 = .ok (.invokevirtual 153, 3) := dk_182 0 153 (dk_at dksX2_condition_0 5 rfl rfl)
theorem dX2_condition_8 : decode cX2_condition 8 = .ok (.astore_n 1, 1) := dk_76 (dk_at dksX2_condition_0 8 rfl rfl)
theorem dX2_condition_9 : decode cX2_condition 9 = .ok (.aload_n 0, 1) := dk_42 (dk_at dksX2_condition_0 9 rfl rfl)
theorem dX2_condition_10 : decode cX2_condition 10 = .ok (.bipush 18, 2) := dk_16 18 (dk_at dksX2_condition_0 10 rfl rfl)
theorem dX2_condition_12 : decode cX2_condition 12 = .ok (.invokevirtual 124, 3) := dk_182 0 124 (dk_at dksX2_condition_0 12 rfl rfl)
theorem dX2_condition_15 : decode cX2_condition 15 = .ok (.ifCond .eq 25, 3) := dk_153 0 25 (dk_at dksX2_condition_0 15 rfl rfl)
theorem dX2_condition_18 : decode cX2_condition 18 = .ok (.aload_n 0, 1) := dk_42 (dk_at dksX2_condition_0 18 rfl rfl)
theorem dX2_condition_19 : decode cX2_condition 19 = .ok (.invokevirtual 96, 3) := dk_182 0 96 (dk_at dksX2_condition_0 19 rfl rfl)
theorem dX2_condition_22 : decode cX2_condition 22 = .ok (.new 156, 3) := dk_187 0 156 (dk_at dksX2_condition_1 0 rfl rfl)
theorem dX2_condition_25 : decode cX2_condition 25 = .ok (.dup, 1) := dk_89 (dk_at dksX2_condition_1 3 rfl rfl)
theorem dX2_condition_26 : decode cX2_condition 26 = .ok (.aload_n 1, 1) := dk_43 (dk_at dksX2_condition_1 4 rfl rfl)
theorem dX2_condition_27 : decode cX2_condition 27 = .ok (.bipush 124, 2) := dk_16 124 (dk_at dksX2_condition_1 5 rfl rfl)
theorem dX2_condition_29 : decode cX2_condition 29 = .ok (.aload_n 0, 1) := dk_42 (dk_at dksX2_condition_1 7 rfl rfl)
theorem dX2_condition_30 : decode cX2_condition 30 = .ok (.invokevirtual 153, 3) := dk_182 0 153 (dk_at dksX2_condition_1 8 rfl rfl)
theorem dX2_condition_33 : decode cX2_condition 33 = .ok (.invokespecial 158, 3) := dk_183 0 158 (dk_at dksX2_condition_1 11 rfl rfl)
theorem dX2_condition_36 : decode cX2_condition 36 = .ok (.astore_n 1, 1) := dk_76 (dk_at dksX2_condition_1 14 rfl rfl)
theorem dX2_condition_37 : decode cX2_condition 37 = .ok (.goto (-28), 3) := dk_167 255 228 (dk_at dksX2_condition_1 15 rfl rfl)
theorem dX2_condition_40 : decode cX2_condition 40 = .ok (.aload_n 1, 1) := dk_43 (dk_at dksX2_condition_1 18 rfl rfl)
theorem dX2_condition_41 : decode cX2_condition 41 = .ok (.areturn, 1) := dk_176 (dk_at dksX2_condition_1 19 rfl rfl)
abbrev cX2_all : ByteArray := prog_18_method_16_code
def yX2_all : MethodName := ⟨RX2, "all", "()LCliffHoney$Term;"⟩
def dkwX2_all_1 : List UInt8 := [16, 38, 42, 182, 0, 161, 183, 0, 158, 76, 167, 255, 228, 43, 176]
abbrev dktX2_all_1 : List UInt8 := dkwX2_all_1 ++ []
def dkwX2_all_0 : List UInt8 := [42, 182, 0, 161, 76, 42, 16, 19, 182, 0, 124, 153, 0, 25, 42, 182, 0, 96, 187, 0, 156, 89, 43]
abbrev dktX2_all_0 : List UInt8 := dkwX2_all_0 ++ dktX2_all_1
theorem dksX2_all_0 : cX2_all.data.toList.drop 0 = dktX2_all_0 := by decide +kernel
theorem dksX2_all_1 : cX2_all.data.toList.drop 23 = dktX2_all_1 := dk_seg dksX2_all_0 23 rfl rfl
theorem dX2_all_0 : decode cX2_all 0 = .ok (.aload_n 0, 1) := dk_42 (dk_at dksX2_all_0 0 rfl rfl)
theorem dX2_all_1 : decode cX2_all 1 = .ok (.invokevirtual 161, 3) := dk_182 0 161 (dk_at dksX2_all_0 1 rfl rfl)
theorem dX2_all_4 : decode cX2_all 4 = .ok (.astore_n 1, 1) := dk_76 (dk_at dksX2_all_0 4 rfl rfl)
theorem dX2_all_5 : decode cX2_all 5 = .ok (.aload_n 0, 1) := dk_42 (dk_at dksX2_all_0 5 rfl rfl)
theorem dX2_all_6 : decode cX2_all 6 = .ok (.bipush 19, 2) := dk_16 19 (dk_at dksX2_all_0 6 rfl rfl)
theorem dX2_all_8 : decode cX2_all 8 = .ok (.invokevirtual 124, 3) := dk_182 0 124 (dk_at dksX2_all_0 8 rfl rfl)
theorem dX2_all_11 : decode cX2_all 11 = .ok (.ifCond .eq 25, 3) := dk_153 0 25 (dk_at dksX2_all_0 11 rfl rfl)
theorem dX2_all_14 : decode cX2_all 14 = .ok (.aload_n 0, 1) := dk_42 (dk_at dksX2_all_0 14 rfl rfl)
theorem dX2_all_15 : decode cX2_all 15 = .ok (.invokevirtual 96, 3) := dk_182 0 96 (dk_at dksX2_all_0 15 rfl rfl)
theorem dX2_all_18 : decode cX2_all 18 = .ok (.new 156, 3) := dk_187 0 156 (dk_at dksX2_all_0 18 rfl rfl)
theorem dX2_all_21 : decode cX2_all 21 = .ok (.dup, 1) := dk_89 (dk_at dksX2_all_0 21 rfl rfl)
theorem dX2_all_22 : decode cX2_all 22 = .ok (.aload_n 1, 1) := dk_43 (dk_at dksX2_all_0 22 rfl rfl)
theorem dX2_all_23 : decode cX2_all 23 = .ok (.bipush 38, 2) := dk_16 38 (dk_at dksX2_all_1 0 rfl rfl)
theorem dX2_all_25 : decode cX2_all 25 = .ok (.aload_n 0, 1) := dk_42 (dk_at dksX2_all_1 2 rfl rfl)
theorem dX2_all_26 : decode cX2_all 26 = .ok (.invokevirtual 161, 3) := dk_182 0 161 (dk_at dksX2_all_1 3 rfl rfl)
theorem dX2_all_29 : decode cX2_all 29 = .ok (.invokespecial 158, 3) := dk_183 0 158 (dk_at dksX2_all_1 6 rfl rfl)
theorem dX2_all_32 : decode cX2_all 32 = .ok (.astore_n 1, 1) := dk_76 (dk_at dksX2_all_1 9 rfl rfl)
theorem dX2_all_33 : decode cX2_all 33 = .ok (.goto (-28), 3) := dk_167 255 228 (dk_at dksX2_all_1 10 rfl rfl)
theorem dX2_all_36 : decode cX2_all 36 = .ok (.aload_n 1, 1) := dk_43 (dk_at dksX2_all_1 13 rfl rfl)
theorem dX2_all_37 : decode cX2_all 37 = .ok (.areturn, 1) := dk_176 (dk_at dksX2_all_1 14 rfl rfl)
abbrev cX2_one : ByteArray := prog_18_method_17_code
def yX2_one : MethodName := ⟨RX2, "one", "()LCliffHoney$Term;"⟩
def dkwX2_one_4 : List UInt8 := [183, 0, 158, 176]
abbrev dktX2_one_4 : List UInt8 := dkwX2_one_4 ++ []
def dkwX2_one_3 : List UInt8 := [182, 0, 88, 191, 42, 180, 0, 57, 146, 61, 42, 182, 0, 96, 187, 0, 156, 89, 43, 28, 42, 182, 0, 118]
abbrev dktX2_one_3 : List UInt8 := dkwX2_one_3 ++ dktX2_one_4
def dkwX2_one_2 : List UInt8 := [154, 0, 26, 42, 16, 61, 182, 0, 115, 154, 0, 17, 42, 16, 62, 182, 0, 115, 154, 0, 8, 42]
abbrev dktX2_one_2 : List UInt8 := dkwX2_one_2 ++ dktX2_one_3
def dkwX2_one_1 : List UInt8 := [76, 42, 89, 180, 0, 99, 4, 100, 181, 0, 99, 43, 176, 42, 182, 0, 118, 76, 42, 16, 60, 182, 0, 115]
abbrev dktX2_one_1 : List UInt8 := dkwX2_one_1 ++ dktX2_one_2
def dkwX2_one_0 : List UInt8 := [42, 16, 20, 182, 0, 124, 153, 0, 31, 42, 182, 0, 164, 187, 0, 167, 89, 42, 182, 0, 161, 183, 0, 169]
abbrev dktX2_one_0 : List UInt8 := dkwX2_one_0 ++ dktX2_one_1
theorem dksX2_one_0 : cX2_one.data.toList.drop 0 = dktX2_one_0 := by decide +kernel
theorem dksX2_one_1 : cX2_one.data.toList.drop 24 = dktX2_one_1 := dk_seg dksX2_one_0 24 rfl rfl
theorem dksX2_one_2 : cX2_one.data.toList.drop 48 = dktX2_one_2 := dk_seg dksX2_one_1 24 rfl rfl
theorem dksX2_one_3 : cX2_one.data.toList.drop 70 = dktX2_one_3 := dk_seg dksX2_one_2 22 rfl rfl
theorem dksX2_one_4 : cX2_one.data.toList.drop 94 = dktX2_one_4 := dk_seg dksX2_one_3 24 rfl rfl
theorem dX2_one_0 : decode cX2_one 0 = .ok (.aload_n 0, 1) := dk_42 (dk_at dksX2_one_0 0 rfl rfl)
theorem dX2_one_1 : decode cX2_one 1 = .ok (.bipush 20, 2) := dk_16 20 (dk_at dksX2_one_0 1 rfl rfl)
theorem dX2_one_3 : decode cX2_one 3 = .ok (.invokevirtual 124, 3) := dk_182 0 124 (dk_at dksX2_one_0 3 rfl rfl)
theorem dX2_one_6 : decode cX2_one 6 = .ok (.ifCond .eq 31, 3) := dk_153 0 31 (dk_at dksX2_one_0 6 rfl rfl)
theorem dX2_one_9 : decode cX2_one 9 = .ok (.aload_n 0, 1) := dk_42 (dk_at dksX2_one_0 9 rfl rfl)
theorem dX2_one_10 : decode cX2_one 10 = .ok (.invokevirtual 164, 3) := dk_182 0 164 (dk_at dksX2_one_0 10 rfl rfl)
theorem dX2_one_13 : decode cX2_one 13 = .ok (.new 167, 3) := dk_187 0 167 (dk_at dksX2_one_0 13 rfl rfl)
theorem dX2_one_16 : decode cX2_one 16 = .ok (.dup, 1) := dk_89 (dk_at dksX2_one_0 16 rfl rfl)
theorem dX2_one_17 : decode cX2_one 17 = .ok (.aload_n 0, 1) := dk_42 (dk_at dksX2_one_0 17 rfl rfl)
theorem dX2_one_18 : decode cX2_one 18 = .ok (.invokevirtual 161, 3) := dk_182 0 161 (dk_at dksX2_one_0 18 rfl rfl)
theorem dX2_one_21 : decode cX2_one 21 = .ok (.invokespecial 169, 3) := dk_183 0 169 (dk_at dksX2_one_0 21 rfl rfl)
theorem dX2_one_24 : decode cX2_one 24 = .ok (.astore_n 1, 1) := dk_76 (dk_at dksX2_one_1 0 rfl rfl)
theorem dX2_one_25 : decode cX2_one 25 = .ok (.aload_n 0, 1) := dk_42 (dk_at dksX2_one_1 1 rfl rfl)
theorem dX2_one_26 : decode cX2_one 26 = .ok (.dup, 1) := dk_89 (dk_at dksX2_one_1 2 rfl rfl)
theorem dX2_one_27 : decode cX2_one 27 = .ok (.getfield 99, 3) := dk_180 0 99 (dk_at dksX2_one_1 3 rfl rfl)
theorem dX2_one_30 : decode cX2_one 30 = .ok (.iconst 1, 1) := dk_4 (dk_at dksX2_one_1 6 rfl rfl)
theorem dX2_one_31 : decode cX2_one 31 = .ok (.isub, 1) := dk_100 (dk_at dksX2_one_1 7 rfl rfl)
theorem dX2_one_32 : decode cX2_one 32 = .ok (.putfield 99, 3) := dk_181 0 99 (dk_at dksX2_one_1 8 rfl rfl)
theorem dX2_one_35 : decode cX2_one 35 = .ok (.aload_n 1, 1) := dk_43 (dk_at dksX2_one_1 11 rfl rfl)
theorem dX2_one_36 : decode cX2_one 36 = .ok (.areturn, 1) := dk_176 (dk_at dksX2_one_1 12 rfl rfl)
theorem dX2_one_37 : decode cX2_one 37 = .ok (.aload_n 0, 1) := dk_42 (dk_at dksX2_one_1 13 rfl rfl)
theorem dX2_one_38 : decode cX2_one 38 = .ok (.invokevirtual 118, 3) := dk_182 0 118 (dk_at dksX2_one_1 14 rfl rfl)
theorem dX2_one_41 : decode cX2_one 41 = .ok (.astore_n 1, 1) := dk_76 (dk_at dksX2_one_1 17 rfl rfl)
theorem dX2_one_42 : decode cX2_one 42 = .ok (.aload_n 0, 1) := dk_42 (dk_at dksX2_one_1 18 rfl rfl)
theorem dX2_one_43 : decode cX2_one 43 = .ok (.bipush 60, 2) := dk_16 60 (dk_at dksX2_one_1 19 rfl rfl)
theorem dX2_one_45 : decode cX2_one 45 = .ok (.invokevirtual 115, 3) := dk_182 0 115 (dk_at dksX2_one_1 21 rfl rfl)
theorem dX2_one_48 : decode cX2_one 48 = .ok (.ifCond .ne 26, 3) := dk_154 0 26 (dk_at dksX2_one_2 0 rfl rfl)
theorem dX2_one_51 : decode cX2_one 51 = .ok (.aload_n 0, 1) := dk_42 (dk_at dksX2_one_2 3 rfl rfl)
theorem dX2_one_52 : decode cX2_one 52 = .ok (.bipush 61, 2) := dk_16 61 (dk_at dksX2_one_2 4 rfl rfl)
theorem dX2_one_54 : decode cX2_one 54 = .ok (.invokevirtual 115, 3) := dk_182 0 115 (dk_at dksX2_one_2 6 rfl rfl)
theorem dX2_one_57 : decode cX2_one 57 = .ok (.ifCond .ne 17, 3) := dk_154 0 17 (dk_at dksX2_one_2 9 rfl rfl)
theorem dX2_one_60 : decode cX2_one 60 = .ok (.aload_n 0, 1) := dk_42 (dk_at dksX2_one_2 12 rfl rfl)
theorem dX2_one_61 : decode cX2_one 61 = .ok (.bipush 62, 2) := dk_16 62 (dk_at dksX2_one_2 13 rfl rfl)
theorem dX2_one_63 : decode cX2_one 63 = .ok (.invokevirtual 115, 3) := dk_182 0 115 (dk_at dksX2_one_2 15 rfl rfl)
theorem dX2_one_66 : decode cX2_one 66 = .ok (.ifCond .ne 8, 3) := dk_154 0 8 (dk_at dksX2_one_2 18 rfl rfl)
theorem dX2_one_69 : decode cX2_one 69 = .ok (.aload_n 0, 1) := dk_42 (dk_at dksX2_one_2 21 rfl rfl)
theorem dX2_one_70 : decode cX2_one 70 = .ok (.invokevirtual 88, 3) := dk_182 0 88 (dk_at dksX2_one_3 0 rfl rfl)
theorem dX2_one_73 : decode cX2_one 73 = .ok (.athrow, 1) := dk_191 (dk_at dksX2_one_3 3 rfl rfl)
theorem dX2_one_74 : decode cX2_one 74 = .ok (.aload_n 0, 1) := dk_42 (dk_at dksX2_one_3 4 rfl rfl)
theorem dX2_one_75 : decode cX2_one 75 = .ok (.getfield 57, 3) := dk_180 0 57 (dk_at dksX2_one_3 5 rfl rfl)
theorem dX2_one_78 : decode cX2_one 78 = .ok (.i2c, 1) := dk_146 (dk_at dksX2_one_3 8 rfl rfl)
theorem dX2_one_79 : decode cX2_one 79 = .ok (.istore_n 2, 1) := dk_61 (dk_at dksX2_one_3 9 rfl rfl)
theorem dX2_one_80 : decode cX2_one 80 = .ok (.aload_n 0, 1) := dk_42 (dk_at dksX2_one_3 10 rfl rfl)
theorem dX2_one_81 : decode cX2_one 81 = .ok (.invokevirtual 96, 3) := dk_182 0 96 (dk_at dksX2_one_3 11 rfl rfl)
theorem dX2_one_84 : decode cX2_one 84 = .ok (.new 156, 3) := dk_187 0 156 (dk_at dksX2_one_3 14 rfl rfl)
theorem dX2_one_87 : decode cX2_one 87 = .ok (.dup, 1) := dk_89 (dk_at dksX2_one_3 17 rfl rfl)
theorem dX2_one_88 : decode cX2_one 88 = .ok (.aload_n 1, 1) := dk_43 (dk_at dksX2_one_3 18 rfl rfl)
theorem dX2_one_89 : decode cX2_one 89 = .ok (.iload_n 2, 1) := dk_28 (dk_at dksX2_one_3 19 rfl rfl)
theorem dX2_one_90 : decode cX2_one 90 = .ok (.aload_n 0, 1) := dk_42 (dk_at dksX2_one_3 20 rfl rfl)
theorem dX2_one_91 : decode cX2_one 91 = .ok (.invokevirtual 118, 3) := dk_182 0 118 (dk_at dksX2_one_3 21 rfl rfl)
theorem dX2_one_94 : decode cX2_one 94 = .ok (.invokespecial 158, 3) := dk_183 0 158 (dk_at dksX2_one_4 0 rfl rfl)
theorem dX2_one_97 : decode cX2_one 97 = .ok (.areturn, 1) := dk_176 (dk_at dksX2_one_4 3 rfl rfl)
theorem q102 : (Jvm.Cond.initialized "CliffHoney$Reader") ∈ lw_all := lw_g (lw_at lw_m1 5 rfl) rfl
theorem q234 : (Jvm.Cond.instantiable "CliffHoney$Reader" (8 : Nat)) ∈ lw_all := lw_g (lw_at lw_m1 137 rfl) rfl
theorem q236 : (Jvm.Cond.instanceMethod ({ cls := "CliffHoney$Reader", name := "<init>", desc := "(LCliffHoney;)V" } : Jvm.MethodName)) ∈ lw_all := lw_g (lw_at lw_m1 139 rfl) rfl
theorem q237 : (Jvm.Cond.code ({ cls := "CliffHoney$Reader", name := "<init>", desc := "(LCliffHoney;)V" } : Jvm.MethodName) prog_18_method_1_code (2 : Nat) (Option.none : Option Jvm.ClassFile.FieldType)) ∈ lw_all := lw_g (lw_at lw_m1 140 rfl) rfl
theorem q238 : (Jvm.Cond.methodLink "CliffHoney$Reader" (9 : Nat) ({ cls := "java/lang/Object", name := "<init>", desc := "()V" } : Jvm.MethodName)) ∈ lw_all := lw_g (lw_at lw_m1 141 rfl) rfl
theorem q239 : (Jvm.Cond.fieldLink "CliffHoney$Reader" (15 : Nat) "CliffHoney$Reader" "at" "I") ∈ lw_all := lw_g (lw_at lw_m1 142 rfl) rfl
theorem q240 : (Jvm.Cond.fieldLink "CliffHoney$Reader" (30 : Nat) "CliffHoney$Reader" "from" "I") ∈ lw_all := lw_g (lw_at lw_m1 143 rfl) rfl
theorem q241 : (Jvm.Cond.fieldLink "CliffHoney$Reader" (33 : Nat) "CliffHoney$Reader" "token" "I") ∈ lw_all := lw_g (lw_at lw_m1 144 rfl) rfl
theorem q242 : (Jvm.Cond.fieldLink "CliffHoney$Reader" (57 : Nat) "CliffHoney$Reader" "value" "I") ∈ lw_all := lw_g (lw_at lw_m1 145 rfl) rfl
theorem q243 : (Jvm.Cond.fieldLink "CliffHoney$Reader" (99 : Nat) "CliffHoney$Reader" "open" "I") ∈ lw_all := lw_g (lw_at lw_m1 146 rfl) rfl
theorem q244 : (Jvm.Cond.fieldLink "CliffHoney$Reader" (102 : Nat) "CliffHoney$Reader" "told" "I") ∈ lw_all := lw_g (lw_at lw_m1 147 rfl) rfl
theorem q246 : (Jvm.Cond.fieldLink "CliffHoney$Reader" (107 : Nat) "CliffHoney$Reader" "row" "[LCliffHoney$Line;") ∈ lw_all := lw_g (lw_at lw_m1 149 rfl) rfl
theorem q248 : (Jvm.Cond.fieldLink "CliffHoney$Reader" (3 : Nat) "CliffHoney$Reader" "this$0" "LCliffHoney;") ∈ lw_all := lw_g (lw_at lw_m1 151 rfl) rfl
theorem q249 : (Jvm.Cond.lays "CliffHoney$Reader" "CliffHoney$Reader" "at" "I") ∈ lw_all := lw_g (lw_at lw_m1 152 rfl) rfl
theorem q250 : (Jvm.Cond.soleField "CliffHoney$Reader" "at") ∈ lw_all := lw_g (lw_at lw_m1 153 rfl) rfl
theorem q251 : (Jvm.Cond.lays "CliffHoney$Reader" "CliffHoney$Reader" "from" "I") ∈ lw_all := lw_g (lw_at lw_m1 154 rfl) rfl
theorem q252 : (Jvm.Cond.soleField "CliffHoney$Reader" "from") ∈ lw_all := lw_g (lw_at lw_m1 155 rfl) rfl
theorem q253 : (Jvm.Cond.lays "CliffHoney$Reader" "CliffHoney$Reader" "token" "I") ∈ lw_all := lw_g (lw_at lw_m1 156 rfl) rfl
theorem q254 : (Jvm.Cond.soleField "CliffHoney$Reader" "token") ∈ lw_all := lw_g (lw_at lw_m1 157 rfl) rfl
theorem q255 : (Jvm.Cond.lays "CliffHoney$Reader" "CliffHoney$Reader" "value" "I") ∈ lw_all := lw_g (lw_at lw_m1 158 rfl) rfl
theorem q256 : (Jvm.Cond.soleField "CliffHoney$Reader" "value") ∈ lw_all := lw_g (lw_at lw_m1 159 rfl) rfl
theorem q257 : (Jvm.Cond.lays "CliffHoney$Reader" "CliffHoney$Reader" "open" "I") ∈ lw_all := lw_g (lw_at lw_m1 160 rfl) rfl
theorem q258 : (Jvm.Cond.soleField "CliffHoney$Reader" "open") ∈ lw_all := lw_g (lw_at lw_m1 161 rfl) rfl
theorem q259 : (Jvm.Cond.lays "CliffHoney$Reader" "CliffHoney$Reader" "told" "I") ∈ lw_all := lw_g (lw_at lw_m1 162 rfl) rfl
theorem q260 : (Jvm.Cond.soleField "CliffHoney$Reader" "told") ∈ lw_all := lw_g (lw_at lw_m1 163 rfl) rfl
theorem q261 : (Jvm.Cond.lays "CliffHoney$Reader" "CliffHoney$Reader" "row" "[LCliffHoney$Line;") ∈ lw_all := lw_g (lw_at lw_m1 164 rfl) rfl
theorem q262 : (Jvm.Cond.soleField "CliffHoney$Reader" "row") ∈ lw_all := lw_g (lw_at lw_m1 165 rfl) rfl
theorem q263 : (Jvm.Cond.laysFinal "CliffHoney$Reader" "CliffHoney$Reader" "this$0" "LCliffHoney;") ∈ lw_all := lw_g (lw_at lw_m1 166 rfl) rfl
theorem q264 : (Jvm.Cond.soleField "CliffHoney$Reader" "this$0") ∈ lw_all := lw_g (lw_at lw_m1 167 rfl) rfl
theorem q265 : (Jvm.Cond.superclass "CliffHoney$Reader" "java/lang/Object") ∈ lw_all := lw_g (lw_at lw_m1 168 rfl) rfl
theorem q319 : (Jvm.Cond.fieldLinkNest "CliffHoney$Reader" (22 : Nat) "CliffHoney" "tape" "[B" "CliffHoney") ∈ lw_tbl := lw_at lw_m1 222 rfl
theorem q320 : (Jvm.Cond.fieldLinkNest "CliffHoney$Reader" (19 : Nat) "CliffHoney" "taped" "I" "CliffHoney") ∈ lw_tbl := lw_at lw_m1 223 rfl
theorem q326 : (Jvm.Cond.fieldLinkNest "CliffHoney$Reader" (76 : Nat) "CliffHoney" "words" "[Ljava/lang/String;" "CliffHoney") ∈ lw_tbl := lw_at lw_m1 229 rfl
theorem q620 : (Jvm.Cond.privateMethod ({ cls := "CliffHoney$Reader", name := "read", desc := "()V" } : Jvm.MethodName)) ∈ lw_tbl := lw_at lw_m3 43 rfl
theorem q621 : (Jvm.Cond.instanceMethod ({ cls := "CliffHoney$Reader", name := "read", desc := "()V" } : Jvm.MethodName)) ∈ lw_all := lw_g (lw_at lw_m3 44 rfl) rfl
theorem q622 : (Jvm.Cond.code ({ cls := "CliffHoney$Reader", name := "read", desc := "()V" } : Jvm.MethodName) prog_18_method_13_code (2 : Nat) (Option.none : Option Jvm.ClassFile.FieldType)) ∈ lw_all := lw_g (lw_at lw_m3 45 rfl) rfl
theorem q623 : (Jvm.Cond.classLink "CliffHoney$Reader" (105 : Nat) "CliffHoney$Line") ∈ lw_all := lw_g (lw_at lw_m3 46 rfl) rfl
theorem q624 : (Jvm.Cond.methodLink "CliffHoney$Reader" (96 : Nat) ({ cls := "CliffHoney$Reader", name := "next", desc := "()V" } : Jvm.MethodName)) ∈ lw_all := lw_g (lw_at lw_m3 47 rfl) rfl
theorem q625 : (Jvm.Cond.privateMethod ({ cls := "CliffHoney$Reader", name := "next", desc := "()V" } : Jvm.MethodName)) ∈ lw_tbl := lw_at lw_m3 48 rfl
theorem q626 : (Jvm.Cond.instanceMethod ({ cls := "CliffHoney$Reader", name := "next", desc := "()V" } : Jvm.MethodName)) ∈ lw_all := lw_g (lw_at lw_m3 49 rfl) rfl
theorem q627 : (Jvm.Cond.code ({ cls := "CliffHoney$Reader", name := "next", desc := "()V" } : Jvm.MethodName) prog_18_method_5_code (2 : Nat) (Option.none : Option Jvm.ClassFile.FieldType)) ∈ lw_all := lw_g (lw_at lw_m3 50 rfl) rfl
theorem q628 : (Jvm.Cond.methodLink "CliffHoney$Reader" (26 : Nat) ({ cls := "CliffHoney$Reader", name := "raw", desc := "()I" } : Jvm.MethodName)) ∈ lw_all := lw_g (lw_at lw_m3 51 rfl) rfl
theorem q629 : (Jvm.Cond.privateMethod ({ cls := "CliffHoney$Reader", name := "raw", desc := "()I" } : Jvm.MethodName)) ∈ lw_tbl := lw_at lw_m3 52 rfl
theorem q630 : (Jvm.Cond.instanceMethod ({ cls := "CliffHoney$Reader", name := "raw", desc := "()I" } : Jvm.MethodName)) ∈ lw_all := lw_g (lw_at lw_m3 53 rfl) rfl
theorem q631 : (Jvm.Cond.code ({ cls := "CliffHoney$Reader", name := "raw", desc := "()I" } : Jvm.MethodName) prog_18_method_2_code (1 : Nat) (Option.some Jvm.ClassFile.FieldType.int)) ∈ lw_all := lw_g (lw_at lw_m3 54 rfl) rfl
theorem q632 : (Jvm.Cond.methodLink "CliffHoney$Reader" (36 : Nat) ({ cls := "CliffHoney$Reader", name := "isLetter", desc := "(I)Z" } : Jvm.MethodName)) ∈ lw_all := lw_g (lw_at lw_m3 55 rfl) rfl
theorem q633 : (Jvm.Cond.privateMethod ({ cls := "CliffHoney$Reader", name := "isLetter", desc := "(I)Z" } : Jvm.MethodName)) ∈ lw_tbl := lw_at lw_m3 56 rfl
theorem q634 : (Jvm.Cond.instanceMethod ({ cls := "CliffHoney$Reader", name := "isLetter", desc := "(I)Z" } : Jvm.MethodName)) ∈ lw_all := lw_g (lw_at lw_m3 57 rfl) rfl
theorem q635 : (Jvm.Cond.code ({ cls := "CliffHoney$Reader", name := "isLetter", desc := "(I)Z" } : Jvm.MethodName) prog_18_method_3_code (2 : Nat) (Option.some Jvm.ClassFile.FieldType.boolean)) ∈ lw_all := lw_g (lw_at lw_m3 58 rfl) rfl
theorem q636 : (Jvm.Cond.methodLink "CliffHoney$Reader" (40 : Nat) ({ cls := "CliffHoney$Reader", name := "letters", desc := "()V" } : Jvm.MethodName)) ∈ lw_all := lw_g (lw_at lw_m3 59 rfl) rfl
theorem q637 : (Jvm.Cond.privateMethod ({ cls := "CliffHoney$Reader", name := "letters", desc := "()V" } : Jvm.MethodName)) ∈ lw_tbl := lw_at lw_m3 60 rfl
theorem q638 : (Jvm.Cond.instanceMethod ({ cls := "CliffHoney$Reader", name := "letters", desc := "()V" } : Jvm.MethodName)) ∈ lw_all := lw_g (lw_at lw_m3 61 rfl) rfl
theorem q639 : (Jvm.Cond.code ({ cls := "CliffHoney$Reader", name := "letters", desc := "()V" } : Jvm.MethodName) prog_18_method_6_code (4 : Nat) (Option.none : Option Jvm.ClassFile.FieldType)) ∈ lw_all := lw_g (lw_at lw_m3 62 rfl) rfl
theorem q640 : (Jvm.Cond.classLink "CliffHoney$Reader" (60 : Nat) "java/lang/StringBuilder") ∈ lw_all := lw_g (lw_at lw_m3 63 rfl) rfl
theorem q642 : (Jvm.Cond.methodLink "CliffHoney$Reader" (62 : Nat) ({ cls := "java/lang/StringBuilder", name := "<init>", desc := "(I)V" } : Jvm.MethodName)) ∈ lw_all := lw_g (lw_at lw_m3 65 rfl) rfl
theorem q671 : (Jvm.Cond.methodLink "CliffHoney$Reader" (65 : Nat) ({ cls := "java/lang/StringBuilder", name := "length", desc := "()I" } : Jvm.MethodName)) ∈ lw_all := lw_g (lw_at lw_m3 94 rfl) rfl
theorem q678 : (Jvm.Cond.methodLink "CliffHoney$Reader" (68 : Nat) ({ cls := "java/lang/StringBuilder", name := "append", desc := "(C)Ljava/lang/StringBuilder;" } : Jvm.MethodName)) ∈ lw_all := lw_g (lw_at lw_m3 101 rfl) rfl
theorem q769 : (Jvm.Cond.methodLink "CliffHoney$Reader" (72 : Nat) ({ cls := "java/lang/StringBuilder", name := "toString", desc := "()Ljava/lang/String;" } : Jvm.MethodName)) ∈ lw_all := lw_g (lw_at lw_m3 192 rfl) rfl
theorem q823 : (Jvm.Cond.methodLink "CliffHoney$Reader" (80 : Nat) ({ cls := "java/lang/String", name := "equals", desc := "(Ljava/lang/Object;)Z" } : Jvm.MethodName)) ∈ lw_all := lw_g (lw_at lw_m4 6 rfl) rfl
theorem q831 : (Jvm.Cond.methodLink "CliffHoney$Reader" (43 : Nat) ({ cls := "CliffHoney$Reader", name := "isDigit", desc := "(I)Z" } : Jvm.MethodName)) ∈ lw_all := lw_g (lw_at lw_m4 14 rfl) rfl
theorem q832 : (Jvm.Cond.privateMethod ({ cls := "CliffHoney$Reader", name := "isDigit", desc := "(I)Z" } : Jvm.MethodName)) ∈ lw_tbl := lw_at lw_m4 15 rfl
theorem q833 : (Jvm.Cond.instanceMethod ({ cls := "CliffHoney$Reader", name := "isDigit", desc := "(I)Z" } : Jvm.MethodName)) ∈ lw_all := lw_g (lw_at lw_m4 16 rfl) rfl
theorem q834 : (Jvm.Cond.code ({ cls := "CliffHoney$Reader", name := "isDigit", desc := "(I)Z" } : Jvm.MethodName) prog_18_method_4_code (2 : Nat) (Option.some Jvm.ClassFile.FieldType.boolean)) ∈ lw_all := lw_g (lw_at lw_m4 17 rfl) rfl
theorem q835 : (Jvm.Cond.methodLink "CliffHoney$Reader" (46 : Nat) ({ cls := "CliffHoney$Reader", name := "digits", desc := "()V" } : Jvm.MethodName)) ∈ lw_all := lw_g (lw_at lw_m4 18 rfl) rfl
theorem q836 : (Jvm.Cond.privateMethod ({ cls := "CliffHoney$Reader", name := "digits", desc := "()V" } : Jvm.MethodName)) ∈ lw_tbl := lw_at lw_m4 19 rfl
theorem q837 : (Jvm.Cond.instanceMethod ({ cls := "CliffHoney$Reader", name := "digits", desc := "()V" } : Jvm.MethodName)) ∈ lw_all := lw_g (lw_at lw_m4 20 rfl) rfl
theorem q838 : (Jvm.Cond.code ({ cls := "CliffHoney$Reader", name := "digits", desc := "()V" } : Jvm.MethodName) prog_18_method_7_code (2 : Nat) (Option.none : Option Jvm.ClassFile.FieldType)) ∈ lw_all := lw_g (lw_at lw_m4 21 rfl) rfl
theorem q839 : (Jvm.Cond.stringRef "CliffHoney$Reader" (49 : Nat) ";+-*/()<=>") ∈ lw_tbl := lw_at lw_m4 22 rfl
theorem q840 : (Jvm.Cond.methodLink "CliffHoney$Reader" (51 : Nat) ({ cls := "java/lang/String", name := "indexOf", desc := "(I)I" } : Jvm.MethodName)) ∈ lw_all := lw_g (lw_at lw_m4 23 rfl) rfl
theorem q906 : (Jvm.Cond.methodLinkNest "CliffHoney$Reader" (92 : Nat) ({ cls := "CliffHoney", name := "isIn", desc := "(III)Z" } : Jvm.MethodName) "CliffHoney") ∈ lw_tbl := lw_at lw_m4 89 rfl
theorem q907 : (Jvm.Cond.methodLinkNest "CliffHoney$Reader" (84 : Nat) ({ cls := "CliffHoney", name := "refused", desc := "(II)LCliffHoney$Fault;" } : Jvm.MethodName) "CliffHoney") ∈ lw_tbl := lw_at lw_m4 90 rfl
theorem q911 : (Jvm.Cond.methodLink "CliffHoney$Reader" (111 : Nat) ({ cls := "CliffHoney$Reader", name := "line", desc := "(I)LCliffHoney$Line;" } : Jvm.MethodName)) ∈ lw_all := lw_g (lw_at lw_m4 94 rfl) rfl
theorem q912 : (Jvm.Cond.privateMethod ({ cls := "CliffHoney$Reader", name := "line", desc := "(I)LCliffHoney$Line;" } : Jvm.MethodName)) ∈ lw_tbl := lw_at lw_m4 95 rfl
theorem q913 : (Jvm.Cond.instanceMethod ({ cls := "CliffHoney$Reader", name := "line", desc := "(I)LCliffHoney$Line;" } : Jvm.MethodName)) ∈ lw_all := lw_g (lw_at lw_m4 96 rfl) rfl
theorem q914 : (Jvm.Cond.code ({ cls := "CliffHoney$Reader", name := "line", desc := "(I)LCliffHoney$Line;" } : Jvm.MethodName) prog_18_method_14_code (3 : Nat) (Option.some (Jvm.ClassFile.FieldType.object "CliffHoney$Line"))) ∈ lw_all := lw_g (lw_at lw_m4 97 rfl) rfl
theorem q915 : (Jvm.Cond.methodLink "CliffHoney$Reader" (118 : Nat) ({ cls := "CliffHoney$Reader", name := "sum", desc := "()LCliffHoney$Term;" } : Jvm.MethodName)) ∈ lw_all := lw_g (lw_at lw_m4 98 rfl) rfl
theorem q916 : (Jvm.Cond.privateMethod ({ cls := "CliffHoney$Reader", name := "sum", desc := "()LCliffHoney$Term;" } : Jvm.MethodName)) ∈ lw_tbl := lw_at lw_m4 99 rfl
theorem q917 : (Jvm.Cond.instanceMethod ({ cls := "CliffHoney$Reader", name := "sum", desc := "()LCliffHoney$Term;" } : Jvm.MethodName)) ∈ lw_all := lw_g (lw_at lw_m4 100 rfl) rfl
theorem q918 : (Jvm.Cond.code ({ cls := "CliffHoney$Reader", name := "sum", desc := "()LCliffHoney$Term;" } : Jvm.MethodName) prog_18_method_18_code (3 : Nat) (Option.some (Jvm.ClassFile.FieldType.object "CliffHoney$Term"))) ∈ lw_all := lw_g (lw_at lw_m4 101 rfl) rfl
theorem q919 : (Jvm.Cond.methodLink "CliffHoney$Reader" (170 : Nat) ({ cls := "CliffHoney$Reader", name := "product", desc := "()LCliffHoney$Term;" } : Jvm.MethodName)) ∈ lw_all := lw_g (lw_at lw_m4 102 rfl) rfl
theorem q920 : (Jvm.Cond.privateMethod ({ cls := "CliffHoney$Reader", name := "product", desc := "()LCliffHoney$Term;" } : Jvm.MethodName)) ∈ lw_tbl := lw_at lw_m4 103 rfl
theorem q921 : (Jvm.Cond.instanceMethod ({ cls := "CliffHoney$Reader", name := "product", desc := "()LCliffHoney$Term;" } : Jvm.MethodName)) ∈ lw_all := lw_g (lw_at lw_m4 104 rfl) rfl
theorem q922 : (Jvm.Cond.code ({ cls := "CliffHoney$Reader", name := "product", desc := "()LCliffHoney$Term;" } : Jvm.MethodName) prog_18_method_19_code (3 : Nat) (Option.some (Jvm.ClassFile.FieldType.object "CliffHoney$Term"))) ∈ lw_all := lw_g (lw_at lw_m4 105 rfl) rfl
theorem q923 : (Jvm.Cond.methodLink "CliffHoney$Reader" (173 : Nat) ({ cls := "CliffHoney$Reader", name := "unit", desc := "()LCliffHoney$Term;" } : Jvm.MethodName)) ∈ lw_all := lw_g (lw_at lw_m4 106 rfl) rfl
theorem q924 : (Jvm.Cond.privateMethod ({ cls := "CliffHoney$Reader", name := "unit", desc := "()LCliffHoney$Term;" } : Jvm.MethodName)) ∈ lw_tbl := lw_at lw_m4 107 rfl
theorem q925 : (Jvm.Cond.instanceMethod ({ cls := "CliffHoney$Reader", name := "unit", desc := "()LCliffHoney$Term;" } : Jvm.MethodName)) ∈ lw_all := lw_g (lw_at lw_m4 108 rfl) rfl
theorem q926 : (Jvm.Cond.code ({ cls := "CliffHoney$Reader", name := "unit", desc := "()LCliffHoney$Term;" } : Jvm.MethodName) prog_18_method_20_code (3 : Nat) (Option.some (Jvm.ClassFile.FieldType.object "CliffHoney$Term"))) ∈ lw_all := lw_g (lw_at lw_m4 109 rfl) rfl
theorem q927 : (Jvm.Cond.methodLink "CliffHoney$Reader" (115 : Nat) ({ cls := "CliffHoney$Reader", name := "isSign", desc := "(I)Z" } : Jvm.MethodName)) ∈ lw_all := lw_g (lw_at lw_m4 110 rfl) rfl
theorem q928 : (Jvm.Cond.privateMethod ({ cls := "CliffHoney$Reader", name := "isSign", desc := "(I)Z" } : Jvm.MethodName)) ∈ lw_tbl := lw_at lw_m4 111 rfl
theorem q929 : (Jvm.Cond.instanceMethod ({ cls := "CliffHoney$Reader", name := "isSign", desc := "(I)Z" } : Jvm.MethodName)) ∈ lw_all := lw_g (lw_at lw_m4 112 rfl) rfl
theorem q930 : (Jvm.Cond.code ({ cls := "CliffHoney$Reader", name := "isSign", desc := "(I)Z" } : Jvm.MethodName) prog_18_method_9_code (2 : Nat) (Option.some Jvm.ClassFile.FieldType.boolean)) ∈ lw_all := lw_g (lw_at lw_m4 113 rfl) rfl
theorem q931 : (Jvm.Cond.methodLink "CliffHoney$Reader" (164 : Nat) ({ cls := "CliffHoney$Reader", name := "opens", desc := "()V" } : Jvm.MethodName)) ∈ lw_all := lw_g (lw_at lw_m4 114 rfl) rfl
theorem q932 : (Jvm.Cond.privateMethod ({ cls := "CliffHoney$Reader", name := "opens", desc := "()V" } : Jvm.MethodName)) ∈ lw_tbl := lw_at lw_m4 115 rfl
theorem q933 : (Jvm.Cond.instanceMethod ({ cls := "CliffHoney$Reader", name := "opens", desc := "()V" } : Jvm.MethodName)) ∈ lw_all := lw_g (lw_at lw_m4 116 rfl) rfl
theorem q934 : (Jvm.Cond.code ({ cls := "CliffHoney$Reader", name := "opens", desc := "()V" } : Jvm.MethodName) prog_18_method_12_code (1 : Nat) (Option.none : Option Jvm.ClassFile.FieldType)) ∈ lw_all := lw_g (lw_at lw_m4 117 rfl) rfl
theorem q935 : (Jvm.Cond.methodLink "CliffHoney$Reader" (88 : Nat) ({ cls := "CliffHoney$Reader", name := "bad", desc := "()LCliffHoney$Fault;" } : Jvm.MethodName)) ∈ lw_all := lw_g (lw_at lw_m4 118 rfl) rfl
theorem q936 : (Jvm.Cond.privateMethod ({ cls := "CliffHoney$Reader", name := "bad", desc := "()LCliffHoney$Fault;" } : Jvm.MethodName)) ∈ lw_tbl := lw_at lw_m4 119 rfl
theorem q937 : (Jvm.Cond.instanceMethod ({ cls := "CliffHoney$Reader", name := "bad", desc := "()LCliffHoney$Fault;" } : Jvm.MethodName)) ∈ lw_all := lw_g (lw_at lw_m4 120 rfl) rfl
theorem q938 : (Jvm.Cond.code ({ cls := "CliffHoney$Reader", name := "bad", desc := "()LCliffHoney$Fault;" } : Jvm.MethodName) prog_18_method_8_code (1 : Nat) (Option.some (Jvm.ClassFile.FieldType.object "CliffHoney$Fault"))) ∈ lw_all := lw_g (lw_at lw_m4 121 rfl) rfl
theorem q939 : (Jvm.Cond.classLink "CliffHoney$Reader" (179 : Nat) "CliffHoney$Asked") ∈ lw_all := lw_g (lw_at lw_m4 122 rfl) rfl
theorem q941 : (Jvm.Cond.methodLink "CliffHoney$Reader" (181 : Nat) ({ cls := "CliffHoney$Asked", name := "<init>", desc := "(I)V" } : Jvm.MethodName)) ∈ lw_all := lw_g (lw_at lw_m4 124 rfl) rfl
theorem q952 : (Jvm.Cond.classLink "CliffHoney$Reader" (176 : Nat) "CliffHoney$Plain") ∈ lw_all := lw_g (lw_at lw_m4 135 rfl) rfl
theorem q954 : (Jvm.Cond.methodLink "CliffHoney$Reader" (178 : Nat) ({ cls := "CliffHoney$Plain", name := "<init>", desc := "(I)V" } : Jvm.MethodName)) ∈ lw_all := lw_g (lw_at lw_m4 137 rfl) rfl
theorem q962 : (Jvm.Cond.classLink "CliffHoney$Reader" (156 : Nat) "CliffHoney$Two") ∈ lw_all := lw_g (lw_at lw_m4 145 rfl) rfl
theorem q964 : (Jvm.Cond.methodLink "CliffHoney$Reader" (140 : Nat) ({ cls := "CliffHoney$Reader", name := "number", desc := "(II)I" } : Jvm.MethodName)) ∈ lw_all := lw_g (lw_at lw_m4 147 rfl) rfl
theorem q965 : (Jvm.Cond.privateMethod ({ cls := "CliffHoney$Reader", name := "number", desc := "(II)I" } : Jvm.MethodName)) ∈ lw_tbl := lw_at lw_m4 148 rfl
theorem q966 : (Jvm.Cond.instanceMethod ({ cls := "CliffHoney$Reader", name := "number", desc := "(II)I" } : Jvm.MethodName)) ∈ lw_all := lw_g (lw_at lw_m4 149 rfl) rfl
theorem q967 : (Jvm.Cond.code ({ cls := "CliffHoney$Reader", name := "number", desc := "(II)I" } : Jvm.MethodName) prog_18_method_11_code (4 : Nat) (Option.some Jvm.ClassFile.FieldType.int)) ∈ lw_all := lw_g (lw_at lw_m4 150 rfl) rfl
theorem q968 : (Jvm.Cond.methodLink "CliffHoney$Reader" (158 : Nat) ({ cls := "CliffHoney$Two", name := "<init>", desc := "(LCliffHoney$Term;CLCliffHoney$Term;)V" } : Jvm.MethodName)) ∈ lw_all := lw_g (lw_at lw_m4 151 rfl) rfl
theorem q982 : (Jvm.Cond.classLink "CliffHoney$Reader" (122 : Nat) "CliffHoney$Leave") ∈ lw_all := lw_g (lw_at lw_m4 165 rfl) rfl
theorem q984 : (Jvm.Cond.methodLink "CliffHoney$Reader" (124 : Nat) ({ cls := "CliffHoney$Reader", name := "isWord", desc := "(I)Z" } : Jvm.MethodName)) ∈ lw_all := lw_g (lw_at lw_m4 167 rfl) rfl
theorem q985 : (Jvm.Cond.privateMethod ({ cls := "CliffHoney$Reader", name := "isWord", desc := "(I)Z" } : Jvm.MethodName)) ∈ lw_tbl := lw_at lw_m4 168 rfl
theorem q986 : (Jvm.Cond.instanceMethod ({ cls := "CliffHoney$Reader", name := "isWord", desc := "(I)Z" } : Jvm.MethodName)) ∈ lw_all := lw_g (lw_at lw_m4 169 rfl) rfl
theorem q987 : (Jvm.Cond.code ({ cls := "CliffHoney$Reader", name := "isWord", desc := "(I)Z" } : Jvm.MethodName) prog_18_method_10_code (2 : Nat) (Option.some Jvm.ClassFile.FieldType.boolean)) ∈ lw_all := lw_g (lw_at lw_m4 170 rfl) rfl
theorem q988 : (Jvm.Cond.methodLink "CliffHoney$Reader" (127 : Nat) ({ cls := "CliffHoney$Reader", name := "condition", desc := "()LCliffHoney$Term;" } : Jvm.MethodName)) ∈ lw_all := lw_g (lw_at lw_m4 171 rfl) rfl
theorem q989 : (Jvm.Cond.privateMethod ({ cls := "CliffHoney$Reader", name := "condition", desc := "()LCliffHoney$Term;" } : Jvm.MethodName)) ∈ lw_tbl := lw_at lw_m4 172 rfl
theorem q990 : (Jvm.Cond.instanceMethod ({ cls := "CliffHoney$Reader", name := "condition", desc := "()LCliffHoney$Term;" } : Jvm.MethodName)) ∈ lw_all := lw_g (lw_at lw_m4 173 rfl) rfl
theorem q991 : (Jvm.Cond.code ({ cls := "CliffHoney$Reader", name := "condition", desc := "()LCliffHoney$Term;" } : Jvm.MethodName) prog_18_method_15_code (2 : Nat) (Option.some (Jvm.ClassFile.FieldType.object "CliffHoney$Term"))) ∈ lw_all := lw_g (lw_at lw_m4 174 rfl) rfl
theorem q992 : (Jvm.Cond.methodLink "CliffHoney$Reader" (153 : Nat) ({ cls := "CliffHoney$Reader", name := "all", desc := "()LCliffHoney$Term;" } : Jvm.MethodName)) ∈ lw_all := lw_g (lw_at lw_m4 175 rfl) rfl
theorem q993 : (Jvm.Cond.privateMethod ({ cls := "CliffHoney$Reader", name := "all", desc := "()LCliffHoney$Term;" } : Jvm.MethodName)) ∈ lw_tbl := lw_at lw_m4 176 rfl
theorem q994 : (Jvm.Cond.instanceMethod ({ cls := "CliffHoney$Reader", name := "all", desc := "()LCliffHoney$Term;" } : Jvm.MethodName)) ∈ lw_all := lw_g (lw_at lw_m4 177 rfl) rfl
theorem q995 : (Jvm.Cond.code ({ cls := "CliffHoney$Reader", name := "all", desc := "()LCliffHoney$Term;" } : Jvm.MethodName) prog_18_method_16_code (2 : Nat) (Option.some (Jvm.ClassFile.FieldType.object "CliffHoney$Term"))) ∈ lw_all := lw_g (lw_at lw_m4 178 rfl) rfl
theorem q996 : (Jvm.Cond.methodLink "CliffHoney$Reader" (161 : Nat) ({ cls := "CliffHoney$Reader", name := "one", desc := "()LCliffHoney$Term;" } : Jvm.MethodName)) ∈ lw_all := lw_g (lw_at lw_m4 179 rfl) rfl
theorem q997 : (Jvm.Cond.privateMethod ({ cls := "CliffHoney$Reader", name := "one", desc := "()LCliffHoney$Term;" } : Jvm.MethodName)) ∈ lw_tbl := lw_at lw_m4 180 rfl
theorem q998 : (Jvm.Cond.instanceMethod ({ cls := "CliffHoney$Reader", name := "one", desc := "()LCliffHoney$Term;" } : Jvm.MethodName)) ∈ lw_all := lw_g (lw_at lw_m4 181 rfl) rfl
theorem q999 : (Jvm.Cond.code ({ cls := "CliffHoney$Reader", name := "one", desc := "()LCliffHoney$Term;" } : Jvm.MethodName) prog_18_method_17_code (3 : Nat) (Option.some (Jvm.ClassFile.FieldType.object "CliffHoney$Term"))) ∈ lw_all := lw_g (lw_at lw_m4 182 rfl) rfl
theorem q1000 : (Jvm.Cond.classLink "CliffHoney$Reader" (167 : Nat) "CliffHoney$Not") ∈ lw_all := lw_g (lw_at lw_m4 183 rfl) rfl
theorem q1002 : (Jvm.Cond.methodLink "CliffHoney$Reader" (169 : Nat) ({ cls := "CliffHoney$Not", name := "<init>", desc := "(LCliffHoney$Term;)V" } : Jvm.MethodName)) ∈ lw_all := lw_g (lw_at lw_m4 185 rfl) rfl
theorem q1010 : (Jvm.Cond.methodLink "CliffHoney$Reader" (130 : Nat) ({ cls := "CliffHoney$Leave", name := "<init>", desc := "(LCliffHoney$Term;LCliffHoney$Term;)V" } : Jvm.MethodName)) ∈ lw_all := lw_g (lw_at lw_m4 193 rfl) rfl
theorem q1026 : (Jvm.Cond.classLink "CliffHoney$Reader" (133 : Nat) "CliffHoney$Bar") ∈ lw_all := lw_g (lw_at lw_m4 209 rfl) rfl
theorem q1028 : (Jvm.Cond.methodLink "CliffHoney$Reader" (135 : Nat) ({ cls := "CliffHoney$Bar", name := "<init>", desc := "(LCliffHoney$Term;)V" } : Jvm.MethodName)) ∈ lw_all := lw_g (lw_at lw_m4 211 rfl) rfl
theorem q1035 : (Jvm.Cond.classLink "CliffHoney$Reader" (138 : Nat) "CliffHoney$Share") ∈ lw_all := lw_g (lw_at lw_m4 218 rfl) rfl
theorem q1037 : (Jvm.Cond.methodLink "CliffHoney$Reader" (144 : Nat) ({ cls := "CliffHoney$Share", name := "<init>", desc := "(II)V" } : Jvm.MethodName)) ∈ lw_all := lw_g (lw_at lw_m4 220 rfl) rfl
theorem q1054 : (Jvm.Cond.classLink "CliffHoney$Reader" (147 : Nat) "CliffHoney$Learn") ∈ lw_all := lw_g (lw_at lw_m4 237 rfl) rfl
theorem q1056 : (Jvm.Cond.methodLink "CliffHoney$Reader" (149 : Nat) ({ cls := "CliffHoney$Learn", name := "<init>", desc := "(I)V" } : Jvm.MethodName)) ∈ lw_all := lw_g (lw_at lw_m4 239 rfl) rfl
theorem q1065 : (Jvm.Cond.classLink "CliffHoney$Reader" (150 : Nat) "CliffHoney$Old") ∈ lw_all := lw_g (lw_at lw_m5 8 rfl) rfl
theorem q1067 : (Jvm.Cond.methodLink "CliffHoney$Reader" (152 : Nat) ({ cls := "CliffHoney$Old", name := "<init>", desc := "(I)V" } : Jvm.MethodName)) ∈ lw_all := lw_g (lw_at lw_m5 10 rfl) rfl
theorem in_X2 : ∀ w ∈ wsX20, w ∈ lw_all := lw_in wsX20 [249, 251, 253, 255, 257, 259, 261, 263] (by decide +kernel) (by decide +kernel)

/-! CliffHoney$Custom -/
set_option maxRecDepth 100000
def RX3 : String := "CliffHoney$Custom"
def TX3 : u_T := fun k => match k with
  | 0 => ("CliffHoney$Custom", "shares", "[I", true)
  | 1 => ("CliffHoney$Custom", "learn", "I", false)
  | 2 => ("CliffHoney$Custom", "old", "I", false)
  | 3 => ("CliffHoney$Custom", "leaves", "I", false)
  | _ => ("CliffHoney$Custom", "isBarred", "Z", false)
def tyX3 : Nat → FieldType := fun k => match k with
  | 0 => .array .int
  | 1 => .int
  | 2 => .int
  | 3 => .int
  | _ => .boolean
abbrev wsX30 : List Cond := u_ws RX3 TX3 5
theorem nmX3 : ∀ a, a < 5 → ∀ b, b < 5 → a ≠ b → (TX3 a).2.1 ≠ (TX3 b).2.1 := by decide +kernel
theorem tyX3_ok : ∀ k, k < 5 → parseFieldDescriptor (TX3 k).2.2.1 = some (tyX3 k) := by decide +kernel
abbrev cX3_init : ByteArray := prog_5_method_1_code
def yX3_init : MethodName := ⟨RX3, "<init>", "()V"⟩
def dkwX3_init_0 : List UInt8 := [42, 183, 0, 3, 42, 7, 188, 10, 181, 0, 9, 42, 16, 20, 181, 0, 15, 177]
abbrev dktX3_init_0 : List UInt8 := dkwX3_init_0 ++ []
theorem dksX3_init_0 : cX3_init.data.toList.drop 0 = dktX3_init_0 := by decide +kernel
theorem dX3_init_0 : decode cX3_init 0 = .ok (.aload_n 0, 1) := dk_42 (dk_at dksX3_init_0 0 rfl rfl)
theorem dX3_init_1 : decode cX3_init 1 = .ok (.invokespecial 3, 3) := dk_183 0 3 (dk_at dksX3_init_0 1 rfl rfl)
theorem dX3_init_4 : decode cX3_init 4 = .ok (.aload_n 0, 1) := dk_42 (dk_at dksX3_init_0 4 rfl rfl)
theorem dX3_init_5 : decode cX3_init 5 = .ok (.iconst 4, 1) := dk_7 (dk_at dksX3_init_0 5 rfl rfl)
theorem dX3_init_6 : decode cX3_init 6 = .ok (.newarray .int, 2) := dk_188_10 (dk_at dksX3_init_0 6 rfl rfl)
theorem dX3_init_8 : decode cX3_init 8 = .ok (.putfield 9, 3) := dk_181 0 9 (dk_at dksX3_init_0 8 rfl rfl)
theorem dX3_init_11 : decode cX3_init 11 = .ok (.aload_n 0, 1) := dk_42 (dk_at dksX3_init_0 11 rfl rfl)
theorem dX3_init_12 : decode cX3_init 12 = .ok (.bipush 20, 2) := dk_16 20 (dk_at dksX3_init_0 12 rfl rfl)
theorem dX3_init_14 : decode cX3_init 14 = .ok (.putfield 15, 3) := dk_181 0 15 (dk_at dksX3_init_0 14 rfl rfl)
theorem dX3_init_17 : decode cX3_init 17 = .ok (.return_, 1) := dk_177 (dk_at dksX3_init_0 17 rfl rfl)
abbrev cX3_all : ByteArray := prog_5_method_2_code
def yX3_all : MethodName := ⟨RX3, "all", "()I"⟩
def dkwX3_all_1 : List UInt8 := [6, 46, 96, 172]
abbrev dktX3_all_1 : List UInt8 := dkwX3_all_1 ++ []
def dkwX3_all_0 : List UInt8 := [42, 180, 0, 9, 3, 46, 42, 180, 0, 9, 4, 46, 96, 42, 180, 0, 9, 5, 46, 96, 42, 180, 0, 9]
abbrev dktX3_all_0 : List UInt8 := dkwX3_all_0 ++ dktX3_all_1
theorem dksX3_all_0 : cX3_all.data.toList.drop 0 = dktX3_all_0 := by decide +kernel
theorem dksX3_all_1 : cX3_all.data.toList.drop 24 = dktX3_all_1 := dk_seg dksX3_all_0 24 rfl rfl
theorem dX3_all_0 : decode cX3_all 0 = .ok (.aload_n 0, 1) := dk_42 (dk_at dksX3_all_0 0 rfl rfl)
theorem dX3_all_1 : decode cX3_all 1 = .ok (.getfield 9, 3) := dk_180 0 9 (dk_at dksX3_all_0 1 rfl rfl)
theorem dX3_all_4 : decode cX3_all 4 = .ok (.iconst 0, 1) := dk_3 (dk_at dksX3_all_0 4 rfl rfl)
theorem dX3_all_5 : decode cX3_all 5 = .ok (.iaload, 1) := dk_46 (dk_at dksX3_all_0 5 rfl rfl)
theorem dX3_all_6 : decode cX3_all 6 = .ok (.aload_n 0, 1) := dk_42 (dk_at dksX3_all_0 6 rfl rfl)
theorem dX3_all_7 : decode cX3_all 7 = .ok (.getfield 9, 3) := dk_180 0 9 (dk_at dksX3_all_0 7 rfl rfl)
theorem dX3_all_10 : decode cX3_all 10 = .ok (.iconst 1, 1) := dk_4 (dk_at dksX3_all_0 10 rfl rfl)
theorem dX3_all_11 : decode cX3_all 11 = .ok (.iaload, 1) := dk_46 (dk_at dksX3_all_0 11 rfl rfl)
theorem dX3_all_12 : decode cX3_all 12 = .ok (.iadd, 1) := dk_96 (dk_at dksX3_all_0 12 rfl rfl)
theorem dX3_all_13 : decode cX3_all 13 = .ok (.aload_n 0, 1) := dk_42 (dk_at dksX3_all_0 13 rfl rfl)
theorem dX3_all_14 : decode cX3_all 14 = .ok (.getfield 9, 3) := dk_180 0 9 (dk_at dksX3_all_0 14 rfl rfl)
theorem dX3_all_17 : decode cX3_all 17 = .ok (.iconst 2, 1) := dk_5 (dk_at dksX3_all_0 17 rfl rfl)
theorem dX3_all_18 : decode cX3_all 18 = .ok (.iaload, 1) := dk_46 (dk_at dksX3_all_0 18 rfl rfl)
theorem dX3_all_19 : decode cX3_all 19 = .ok (.iadd, 1) := dk_96 (dk_at dksX3_all_0 19 rfl rfl)
theorem dX3_all_20 : decode cX3_all 20 = .ok (.aload_n 0, 1) := dk_42 (dk_at dksX3_all_0 20 rfl rfl)
theorem dX3_all_21 : decode cX3_all 21 = .ok (.getfield 9, 3) := dk_180 0 9 (dk_at dksX3_all_0 21 rfl rfl)
theorem dX3_all_24 : decode cX3_all 24 = .ok (.iconst 3, 1) := dk_6 (dk_at dksX3_all_1 0 rfl rfl)
theorem dX3_all_25 : decode cX3_all 25 = .ok (.iaload, 1) := dk_46 (dk_at dksX3_all_1 1 rfl rfl)
theorem dX3_all_26 : decode cX3_all 26 = .ok (.iadd, 1) := dk_96 (dk_at dksX3_all_1 2 rfl rfl)
theorem dX3_all_27 : decode cX3_all 27 = .ok (.ireturn, 1) := dk_172 (dk_at dksX3_all_1 3 rfl rfl)
theorem q103 : (Jvm.Cond.initialized "CliffHoney$Custom") ∈ lw_all := lw_g (lw_at lw_m1 6 rfl) rfl
theorem q272 : (Jvm.Cond.instantiable "CliffHoney$Custom" (5 : Nat)) ∈ lw_all := lw_g (lw_at lw_m1 175 rfl) rfl
theorem q274 : (Jvm.Cond.instanceMethod ({ cls := "CliffHoney$Custom", name := "<init>", desc := "()V" } : Jvm.MethodName)) ∈ lw_all := lw_g (lw_at lw_m1 177 rfl) rfl
theorem q275 : (Jvm.Cond.code ({ cls := "CliffHoney$Custom", name := "<init>", desc := "()V" } : Jvm.MethodName) prog_5_method_1_code (1 : Nat) (Option.none : Option Jvm.ClassFile.FieldType)) ∈ lw_all := lw_g (lw_at lw_m1 178 rfl) rfl
theorem q276 : (Jvm.Cond.methodLink "CliffHoney$Custom" (3 : Nat) ({ cls := "java/lang/Object", name := "<init>", desc := "()V" } : Jvm.MethodName)) ∈ lw_all := lw_g (lw_at lw_m1 179 rfl) rfl
theorem q277 : (Jvm.Cond.fieldLink "CliffHoney$Custom" (9 : Nat) "CliffHoney$Custom" "shares" "[I") ∈ lw_all := lw_g (lw_at lw_m1 180 rfl) rfl
theorem q283 : (Jvm.Cond.fieldLink "CliffHoney$Custom" (15 : Nat) "CliffHoney$Custom" "old" "I") ∈ lw_all := lw_g (lw_at lw_m1 186 rfl) rfl
theorem q290 : (Jvm.Cond.laysFinal "CliffHoney$Custom" "CliffHoney$Custom" "shares" "[I") ∈ lw_all := lw_g (lw_at lw_m1 193 rfl) rfl
theorem q291 : (Jvm.Cond.soleField "CliffHoney$Custom" "shares") ∈ lw_all := lw_g (lw_at lw_m1 194 rfl) rfl
theorem q292 : (Jvm.Cond.lays "CliffHoney$Custom" "CliffHoney$Custom" "learn" "I") ∈ lw_all := lw_g (lw_at lw_m1 195 rfl) rfl
theorem q293 : (Jvm.Cond.soleField "CliffHoney$Custom" "learn") ∈ lw_all := lw_g (lw_at lw_m1 196 rfl) rfl
theorem q294 : (Jvm.Cond.lays "CliffHoney$Custom" "CliffHoney$Custom" "old" "I") ∈ lw_all := lw_g (lw_at lw_m1 197 rfl) rfl
theorem q295 : (Jvm.Cond.soleField "CliffHoney$Custom" "old") ∈ lw_all := lw_g (lw_at lw_m1 198 rfl) rfl
theorem q296 : (Jvm.Cond.lays "CliffHoney$Custom" "CliffHoney$Custom" "leaves" "I") ∈ lw_all := lw_g (lw_at lw_m1 199 rfl) rfl
theorem q297 : (Jvm.Cond.soleField "CliffHoney$Custom" "leaves") ∈ lw_all := lw_g (lw_at lw_m1 200 rfl) rfl
theorem q298 : (Jvm.Cond.lays "CliffHoney$Custom" "CliffHoney$Custom" "isBarred" "Z") ∈ lw_all := lw_g (lw_at lw_m1 201 rfl) rfl
theorem q299 : (Jvm.Cond.soleField "CliffHoney$Custom" "isBarred") ∈ lw_all := lw_g (lw_at lw_m1 202 rfl) rfl
theorem q300 : (Jvm.Cond.superclass "CliffHoney$Custom" "java/lang/Object") ∈ lw_all := lw_g (lw_at lw_m1 203 rfl) rfl
theorem q1457 : (Jvm.Cond.instanceMethod ({ cls := "CliffHoney$Custom", name := "all", desc := "()I" } : Jvm.MethodName)) ∈ lw_all := lw_g (lw_at lw_m6 160 rfl) rfl
theorem q1458 : (Jvm.Cond.selects "CliffHoney$Custom" ({ cls := "CliffHoney$Custom", name := "all", desc := "()I" } : Jvm.MethodName) ({ cls := "CliffHoney$Custom", name := "all", desc := "()I" } : Jvm.MethodName)) ∈ lw_all := lw_g (lw_at lw_m6 161 rfl) rfl
theorem q1459 : (Jvm.Cond.code ({ cls := "CliffHoney$Custom", name := "all", desc := "()I" } : Jvm.MethodName) prog_5_method_2_code (1 : Nat) (Option.some Jvm.ClassFile.FieldType.int)) ∈ lw_all := lw_g (lw_at lw_m6 162 rfl) rfl
theorem in_X3 : ∀ w ∈ wsX30, w ∈ lw_all := lw_in wsX30 [290, 292, 294, 296, 298] (by decide +kernel) (by decide +kernel)

/-! CliffHoney$Ledge -/
set_option maxRecDepth 100000
def RX5 : String := "CliffHoney$Ledge"
def TX5 : u_T := fun k => match k with
  | 0 => ("CliffHoney$Ledge", "column", "I", true)
  | 1 => ("CliffHoney$Ledge", "height", "I", true)
  | 2 => ("CliffHoney$Ledge", "finder", "I", true)
  | 3 => ("CliffHoney$Ledge", "strength", "I", false)
  | 4 => ("CliffHoney$Ledge", "comb", "I", false)
  | 5 => ("CliffHoney$Ledge", "kept", "I", false)
  | 6 => ("CliffHoney$Ledge", "low", "I", false)
  | 7 => ("CliffHoney$Ledge", "high", "I", false)
  | 8 => ("CliffHoney$Ledge", "madness", "J", false)
  | 9 => ("CliffHoney$Ledge", "isCut", "Z", false)
  | _ => ("CliffHoney$Ledge", "isSprayed", "Z", false)
def tyX5 : Nat → FieldType := fun k => match k with
  | 0 => .int
  | 1 => .int
  | 2 => .int
  | 3 => .int
  | 4 => .int
  | 5 => .int
  | 6 => .int
  | 7 => .int
  | 8 => .long
  | 9 => .boolean
  | _ => .boolean
abbrev wsX50 : List Cond := u_ws RX5 TX5 11
theorem nmX5 : ∀ a, a < 11 → ∀ b, b < 11 → a ≠ b → (TX5 a).2.1 ≠ (TX5 b).2.1 := by decide +kernel
theorem tyX5_ok : ∀ k, k < 11 → parseFieldDescriptor (TX5 k).2.2.1 = some (tyX5 k) := by decide +kernel
abbrev cX5_init : ByteArray := prog_10_method_1_code
def yX5_init : MethodName := ⟨RX5, "<init>", "(IIII)V"⟩
def dkwX5_init_1 : List UInt8 := [181, 0, 21, 42, 29, 181, 0, 24, 42, 21, 4, 181, 0, 27, 177]
abbrev dktX5_init_1 : List UInt8 := dkwX5_init_1 ++ []
def dkwX5_init_0 : List UInt8 := [42, 183, 0, 3, 42, 16, 100, 181, 0, 9, 42, 16, 9, 181, 0, 15, 42, 27, 181, 0, 18, 42, 28]
abbrev dktX5_init_0 : List UInt8 := dkwX5_init_0 ++ dktX5_init_1
theorem dksX5_init_0 : cX5_init.data.toList.drop 0 = dktX5_init_0 := by decide +kernel
theorem dksX5_init_1 : cX5_init.data.toList.drop 23 = dktX5_init_1 := dk_seg dksX5_init_0 23 rfl rfl
theorem dX5_init_0 : decode cX5_init 0 = .ok (.aload_n 0, 1) := dk_42 (dk_at dksX5_init_0 0 rfl rfl)
theorem dX5_init_1 : decode cX5_init 1 = .ok (.invokespecial 3, 3) := dk_183 0 3 (dk_at dksX5_init_0 1 rfl rfl)
theorem dX5_init_4 : decode cX5_init 4 = .ok (.aload_n 0, 1) := dk_42 (dk_at dksX5_init_0 4 rfl rfl)
theorem dX5_init_5 : decode cX5_init 5 = .ok (.bipush 100, 2) := dk_16 100 (dk_at dksX5_init_0 5 rfl rfl)
theorem dX5_init_7 : decode cX5_init 7 = .ok (.putfield 9, 3) := dk_181 0 9 (dk_at dksX5_init_0 7 rfl rfl)
theorem dX5_init_10 : decode cX5_init 10 = .ok (.aload_n 0, 1) := dk_42 (dk_at dksX5_init_0 10 rfl rfl)
theorem dX5_init_11 : decode cX5_init 11 = .ok (.bipush 9, 2) := dk_16 9 (dk_at dksX5_init_0 11 rfl rfl)
theorem dX5_init_13 : decode cX5_init 13 = .ok (.putfield 15, 3) := dk_181 0 15 (dk_at dksX5_init_0 13 rfl rfl)
theorem dX5_init_16 : decode cX5_init 16 = .ok (.aload_n 0, 1) := dk_42 (dk_at dksX5_init_0 16 rfl rfl)
theorem dX5_init_17 : decode cX5_init 17 = .ok (.iload_n 1, 1) := dk_27 (dk_at dksX5_init_0 17 rfl rfl)
theorem dX5_init_18 : decode cX5_init 18 = .ok (.putfield 18, 3) := dk_181 0 18 (dk_at dksX5_init_0 18 rfl rfl)
theorem dX5_init_21 : decode cX5_init 21 = .ok (.aload_n 0, 1) := dk_42 (dk_at dksX5_init_0 21 rfl rfl)
theorem dX5_init_22 : decode cX5_init 22 = .ok (.iload_n 2, 1) := dk_28 (dk_at dksX5_init_0 22 rfl rfl)
theorem dX5_init_23 : decode cX5_init 23 = .ok (.putfield 21, 3) := dk_181 0 21 (dk_at dksX5_init_1 0 rfl rfl)
theorem dX5_init_26 : decode cX5_init 26 = .ok (.aload_n 0, 1) := dk_42 (dk_at dksX5_init_1 3 rfl rfl)
theorem dX5_init_27 : decode cX5_init 27 = .ok (.iload_n 3, 1) := dk_29 (dk_at dksX5_init_1 4 rfl rfl)
theorem dX5_init_28 : decode cX5_init 28 = .ok (.putfield 24, 3) := dk_181 0 24 (dk_at dksX5_init_1 5 rfl rfl)
theorem dX5_init_31 : decode cX5_init 31 = .ok (.aload_n 0, 1) := dk_42 (dk_at dksX5_init_1 8 rfl rfl)
theorem dX5_init_32 : decode cX5_init 32 = .ok (.iload 4, 2) := dk_21 4 (dk_at dksX5_init_1 9 rfl rfl)
theorem dX5_init_34 : decode cX5_init 34 = .ok (.putfield 27, 3) := dk_181 0 27 (dk_at dksX5_init_1 11 rfl rfl)
theorem dX5_init_37 : decode cX5_init 37 = .ok (.return_, 1) := dk_177 (dk_at dksX5_init_1 14 rfl rfl)
abbrev cX5_grows : ByteArray := prog_10_method_3_code
def yX5_grows : MethodName := ⟨RX5, "grows", "(II)V"⟩
def dkwX5_grows_2 : List UInt8 := [97, 181, 0, 46, 177]
abbrev dktX5_grows_2 : List UInt8 := dkwX5_grows_2 ++ []
def dkwX5_grows_1 : List UInt8 := [157, 0, 4, 177, 42, 89, 180, 0, 30, 29, 96, 181, 0, 30, 42, 89, 180, 0, 46, 29, 133, 28, 133, 105]
abbrev dktX5_grows_1 : List UInt8 := dkwX5_grows_1 ++ dktX5_grows_2
def dkwX5_grows_0 : List UInt8 := [42, 180, 0, 24, 27, 104, 17, 1, 144, 42, 180, 0, 24, 104, 42, 180, 0, 30, 100, 184, 0, 40, 62, 29]
abbrev dktX5_grows_0 : List UInt8 := dkwX5_grows_0 ++ dktX5_grows_1
theorem dksX5_grows_0 : cX5_grows.data.toList.drop 0 = dktX5_grows_0 := by decide +kernel
theorem dksX5_grows_1 : cX5_grows.data.toList.drop 24 = dktX5_grows_1 := dk_seg dksX5_grows_0 24 rfl rfl
theorem dksX5_grows_2 : cX5_grows.data.toList.drop 48 = dktX5_grows_2 := dk_seg dksX5_grows_1 24 rfl rfl
theorem dX5_grows_0 : decode cX5_grows 0 = .ok (.aload_n 0, 1) := dk_42 (dk_at dksX5_grows_0 0 rfl rfl)
theorem dX5_grows_1 : decode cX5_grows 1 = .ok (.getfield 24, 3) := dk_180 0 24 (dk_at dksX5_grows_0 1 rfl rfl)
theorem dX5_grows_4 : decode cX5_grows 4 = .ok (.iload_n 1, 1) := dk_27 (dk_at dksX5_grows_0 4 rfl rfl)
theorem dX5_grows_5 : decode cX5_grows 5 = .ok (.imul, 1) := dk_104 (dk_at dksX5_grows_0 5 rfl rfl)
theorem dX5_grows_6 : decode cX5_grows 6 = .ok (.sipush 400, 3) := dk_17 1 144 (dk_at dksX5_grows_0 6 rfl rfl)
theorem dX5_grows_9 : decode cX5_grows 9 = .ok (.aload_n 0, 1) := dk_42 (dk_at dksX5_grows_0 9 rfl rfl)
theorem dX5_grows_10 : decode cX5_grows 10 = .ok (.getfield 24, 3) := dk_180 0 24 (dk_at dksX5_grows_0 10 rfl rfl)
theorem dX5_grows_13 : decode cX5_grows 13 = .ok (.imul, 1) := dk_104 (dk_at dksX5_grows_0 13 rfl rfl)
theorem dX5_grows_14 : decode cX5_grows 14 = .ok (.aload_n 0, 1) := dk_42 (dk_at dksX5_grows_0 14 rfl rfl)
theorem dX5_grows_15 : decode cX5_grows 15 = .ok (.getfield 30, 3) := dk_180 0 30 (dk_at dksX5_grows_0 15 rfl rfl)
theorem dX5_grows_18 : decode cX5_grows 18 = .ok (.isub, 1) := dk_100 (dk_at dksX5_grows_0 18 rfl rfl)
theorem dX5_grows_19 : decode cX5_grows 19 = .ok (.invokestatic 40, 3) := dk_184 0 40 (dk_at dksX5_grows_0 19 rfl rfl)
theorem dX5_grows_22 : decode cX5_grows 22 = .ok (.istore_n 3, 1) := dk_62 (dk_at dksX5_grows_0 22 rfl rfl)
theorem dX5_grows_23 : decode cX5_grows 23 = .ok (.iload_n 3, 1) := dk_29 (dk_at dksX5_grows_0 23 rfl rfl)
theorem dX5_grows_24 : decode cX5_grows 24 = .ok (.ifCond .gt 4, 3) := dk_157 0 4 (dk_at dksX5_grows_1 0 rfl rfl)
theorem dX5_grows_27 : decode cX5_grows 27 = .ok (.return_, 1) := dk_177 (dk_at dksX5_grows_1 3 rfl rfl)
theorem dX5_grows_28 : decode cX5_grows 28 = .ok (.aload_n 0, 1) := dk_42 (dk_at dksX5_grows_1 4 rfl rfl)
theorem dX5_grows_29 : decode cX5_grows 29 = .ok (.dup, 1) := dk_89 (dk_at dksX5_grows_1 5 rfl rfl)
theorem dX5_grows_30 : decode cX5_grows 30 = .ok (.getfield 30, 3) := dk_180 0 30 (dk_at dksX5_grows_1 6 rfl rfl)
theorem dX5_grows_33 : decode cX5_grows 33 = .ok (.iload_n 3, 1) := dk_29 (dk_at dksX5_grows_1 9 rfl rfl)
theorem dX5_grows_34 : decode cX5_grows 34 = .ok (.iadd, 1) := dk_96 (dk_at dksX5_grows_1 10 rfl rfl)
theorem dX5_grows_35 : decode cX5_grows 35 = .ok (.putfield 30, 3) := dk_181 0 30 (dk_at dksX5_grows_1 11 rfl rfl)
theorem dX5_grows_38 : decode cX5_grows 38 = .ok (.aload_n 0, 1) := dk_42 (dk_at dksX5_grows_1 14 rfl rfl)
theorem dX5_grows_39 : decode cX5_grows 39 = .ok (.dup, 1) := dk_89 (dk_at dksX5_grows_1 15 rfl rfl)
theorem dX5_grows_40 : decode cX5_grows 40 = .ok (.getfield 46, 3) := dk_180 0 46 (dk_at dksX5_grows_1 16 rfl rfl)
theorem dX5_grows_43 : decode cX5_grows 43 = .ok (.iload_n 3, 1) := dk_29 (dk_at dksX5_grows_1 19 rfl rfl)
theorem dX5_grows_44 : decode cX5_grows 44 = .ok (.i2l, 1) := dk_133 (dk_at dksX5_grows_1 20 rfl rfl)
theorem dX5_grows_45 : decode cX5_grows 45 = .ok (.iload_n 2, 1) := dk_28 (dk_at dksX5_grows_1 21 rfl rfl)
theorem dX5_grows_46 : decode cX5_grows 46 = .ok (.i2l, 1) := dk_133 (dk_at dksX5_grows_1 22 rfl rfl)
theorem dX5_grows_47 : decode cX5_grows 47 = .ok (.lmul, 1) := dk_105 (dk_at dksX5_grows_1 23 rfl rfl)
theorem dX5_grows_48 : decode cX5_grows 48 = .ok (.ladd, 1) := dk_97 (dk_at dksX5_grows_2 0 rfl rfl)
theorem dX5_grows_49 : decode cX5_grows 49 = .ok (.putfield 46, 3) := dk_181 0 46 (dk_at dksX5_grows_2 1 rfl rfl)
theorem dX5_grows_52 : decode cX5_grows 52 = .ok (.return_, 1) := dk_177 (dk_at dksX5_grows_2 4 rfl rfl)
abbrev cX5_seasonEnds : ByteArray := prog_10_method_6_code
def yX5_seasonEnds : MethodName := ⟨RX5, "seasonEnds", "()V"⟩
def dkwX5_seasonEnds_4 : List UInt8 := [42, 3, 181, 0, 37, 177]
abbrev dktX5_seasonEnds_4 : List UInt8 := dkwX5_seasonEnds_4 ++ []
def dkwX5_seasonEnds_3 : List UInt8 := [181, 0, 15, 42, 3, 181, 0, 30, 42, 9, 181, 0, 46, 42, 16, 100, 181, 0, 9, 42, 3, 181, 0, 33]
abbrev dktX5_seasonEnds_3 : List UInt8 := dkwX5_seasonEnds_3 ++ dktX5_seasonEnds_4
def dkwX5_seasonEnds_2 : List UInt8 := [16, 254, 182, 0, 54, 181, 0, 57, 42, 5, 42, 42, 180, 0, 15, 4, 182, 0, 54, 184, 0, 60]
abbrev dktX5_seasonEnds_2 : List UInt8 := dkwX5_seasonEnds_2 ++ dktX5_seasonEnds_3
def dkwX5_seasonEnds_1 : List UInt8 := [16, 25, 161, 0, 7, 3, 167, 0, 5, 16, 254, 182, 0, 54, 181, 0, 24, 42, 42, 42, 180, 0, 57]
abbrev dktX5_seasonEnds_1 : List UInt8 := dkwX5_seasonEnds_1 ++ dktX5_seasonEnds_2
def dkwX5_seasonEnds_0 : List UInt8 := [42, 42, 42, 180, 0, 24, 42, 180, 0, 9, 16, 50, 161, 0, 7, 4, 167, 0, 18, 42, 180, 0, 9]
abbrev dktX5_seasonEnds_0 : List UInt8 := dkwX5_seasonEnds_0 ++ dktX5_seasonEnds_1
theorem dksX5_seasonEnds_0 : cX5_seasonEnds.data.toList.drop 0 = dktX5_seasonEnds_0 := by decide +kernel
theorem dksX5_seasonEnds_1 : cX5_seasonEnds.data.toList.drop 23 = dktX5_seasonEnds_1 := dk_seg dksX5_seasonEnds_0 23 rfl rfl
theorem dksX5_seasonEnds_2 : cX5_seasonEnds.data.toList.drop 46 = dktX5_seasonEnds_2 := dk_seg dksX5_seasonEnds_1 23 rfl rfl
theorem dksX5_seasonEnds_3 : cX5_seasonEnds.data.toList.drop 68 = dktX5_seasonEnds_3 := dk_seg dksX5_seasonEnds_2 22 rfl rfl
theorem dksX5_seasonEnds_4 : cX5_seasonEnds.data.toList.drop 92 = dktX5_seasonEnds_4 := dk_seg dksX5_seasonEnds_3 24 rfl rfl
theorem dX5_seasonEnds_0 : decode cX5_seasonEnds 0 = .ok (.aload_n 0, 1) := dk_42 (dk_at dksX5_seasonEnds_0 0 rfl rfl)
theorem dX5_seasonEnds_1 : decode cX5_seasonEnds 1 = .ok (.aload_n 0, 1) := dk_42 (dk_at dksX5_seasonEnds_0 1 rfl rfl)
theorem dX5_seasonEnds_2 : decode cX5_seasonEnds 2 = .ok (.aload_n 0, 1) := dk_42 (dk_at dksX5_seasonEnds_0 2 rfl rfl)
theorem dX5_seasonEnds_3 : decode cX5_seasonEnds 3 = .ok (.getfield 24, 3) := dk_180 0 24 (dk_at dksX5_seasonEnds_0 3 rfl rfl)
theorem dX5_seasonEnds_6 : decode cX5_seasonEnds 6 = .ok (.aload_n 0, 1) := dk_42 (dk_at dksX5_seasonEnds_0 6 rfl rfl)
theorem dX5_seasonEnds_7 : decode cX5_seasonEnds 7 = .ok (.getfield 9, 3) := dk_180 0 9 (dk_at dksX5_seasonEnds_0 7 rfl rfl)
theorem dX5_seasonEnds_10 : decode cX5_seasonEnds 10 = .ok (.bipush 50, 2) := dk_16 50 (dk_at dksX5_seasonEnds_0 10 rfl rfl)
theorem dX5_seasonEnds_12 : decode cX5_seasonEnds 12 = .ok (.if_icmp .lt 7, 3) := dk_161 0 7 (dk_at dksX5_seasonEnds_0 12 rfl rfl)
theorem dX5_seasonEnds_15 : decode cX5_seasonEnds 15 = .ok (.iconst 1, 1) := dk_4 (dk_at dksX5_seasonEnds_0 15 rfl rfl)
theorem dX5_seasonEnds_16 : decode cX5_seasonEnds 16 = .ok (.goto 18, 3) := dk_167 0 18 (dk_at dksX5_seasonEnds_0 16 rfl rfl)
theorem dX5_seasonEnds_19 : decode cX5_seasonEnds 19 = .ok (.aload_n 0, 1) := dk_42 (dk_at dksX5_seasonEnds_0 19 rfl rfl)
theorem dX5_seasonEnds_20 : decode cX5_seasonEnds 20 = .ok (.getfield 9, 3) := dk_180 0 9 (dk_at dksX5_seasonEnds_0 20 rfl rfl)
theorem dX5_seasonEnds_23 : decode cX5_seasonEnds 23 = .ok (.bipush 25, 2) := dk_16 25 (dk_at dksX5_seasonEnds_1 0 rfl rfl)
theorem dX5_seasonEnds_25 : decode cX5_seasonEnds 25 = .ok (.if_icmp .lt 7, 3) := dk_161 0 7 (dk_at dksX5_seasonEnds_1 2 rfl rfl)
theorem dX5_seasonEnds_28 : decode cX5_seasonEnds 28 = .ok (.iconst 0, 1) := dk_3 (dk_at dksX5_seasonEnds_1 5 rfl rfl)
theorem dX5_seasonEnds_29 : decode cX5_seasonEnds 29 = .ok (.goto 5, 3) := dk_167 0 5 (dk_at dksX5_seasonEnds_1 6 rfl rfl)
theorem dX5_seasonEnds_32 : decode cX5_seasonEnds 32 = .ok (.bipush (-2), 2) := dk_16 254 (dk_at dksX5_seasonEnds_1 9 rfl rfl)
theorem dX5_seasonEnds_34 : decode cX5_seasonEnds 34 = .ok (.invokevirtual 54, 3) := dk_182 0 54 (dk_at dksX5_seasonEnds_1 11 rfl rfl)
theorem dX5_seasonEnds_37 : decode cX5_seasonEnds 37 = .ok (.putfield 24, 3) := dk_181 0 24 (dk_at dksX5_seasonEnds_1 14 rfl rfl)
theorem dX5_seasonEnds_40 : decode cX5_seasonEnds 40 = .ok (.aload_n 0, 1) := dk_42 (dk_at dksX5_seasonEnds_1 17 rfl rfl)
theorem dX5_seasonEnds_41 : decode cX5_seasonEnds 41 = .ok (.aload_n 0, 1) := dk_42 (dk_at dksX5_seasonEnds_1 18 rfl rfl)
theorem dX5_seasonEnds_42 : decode cX5_seasonEnds 42 = .ok (.aload_n 0, 1) := dk_42 (dk_at dksX5_seasonEnds_1 19 rfl rfl)
theorem dX5_seasonEnds_43 : decode cX5_seasonEnds 43 = .ok (.getfield 57, 3) := dk_180 0 57 (dk_at dksX5_seasonEnds_1 20 rfl rfl)
theorem dX5_seasonEnds_46 : decode cX5_seasonEnds 46 = .ok (.bipush (-2), 2) := dk_16 254 (dk_at dksX5_seasonEnds_2 0 rfl rfl)
theorem dX5_seasonEnds_48 : decode cX5_seasonEnds 48 = .ok (.invokevirtual 54, 3) := dk_182 0 54 (dk_at dksX5_seasonEnds_2 2 rfl rfl)
theorem dX5_seasonEnds_51 : decode cX5_seasonEnds 51 = .ok (.putfield 57, 3) := dk_181 0 57 (dk_at dksX5_seasonEnds_2 5 rfl rfl)
theorem dX5_seasonEnds_54 : decode cX5_seasonEnds 54 = .ok (.aload_n 0, 1) := dk_42 (dk_at dksX5_seasonEnds_2 8 rfl rfl)
theorem dX5_seasonEnds_55 : decode cX5_seasonEnds 55 = .ok (.iconst 2, 1) := dk_5 (dk_at dksX5_seasonEnds_2 9 rfl rfl)
theorem dX5_seasonEnds_56 : decode cX5_seasonEnds 56 = .ok (.aload_n 0, 1) := dk_42 (dk_at dksX5_seasonEnds_2 10 rfl rfl)
theorem dX5_seasonEnds_57 : decode cX5_seasonEnds 57 = .ok (.aload_n 0, 1) := dk_42 (dk_at dksX5_seasonEnds_2 11 rfl rfl)
theorem dX5_seasonEnds_58 : decode cX5_seasonEnds 58 = .ok (.getfield 15, 3) := dk_180 0 15 (dk_at dksX5_seasonEnds_2 12 rfl rfl)
theorem dX5_seasonEnds_61 : decode cX5_seasonEnds 61 = .ok (.iconst 1, 1) := dk_4 (dk_at dksX5_seasonEnds_2 15 rfl rfl)
theorem dX5_seasonEnds_62 : decode cX5_seasonEnds 62 = .ok (.invokevirtual 54, 3) := dk_182 0 54 (dk_at dksX5_seasonEnds_2 16 rfl rfl)
theorem dX5_seasonEnds_65 : decode cX5_seasonEnds 65 = .ok (.invokestatic 60, 3) := dk_184 0 60 (dk_at dksX5_seasonEnds_2 19 rfl rfl)
theorem dX5_seasonEnds_68 : decode cX5_seasonEnds 68 = .ok (.putfield 15, 3) := dk_181 0 15 (dk_at dksX5_seasonEnds_3 0 rfl rfl)
theorem dX5_seasonEnds_71 : decode cX5_seasonEnds 71 = .ok (.aload_n 0, 1) := dk_42 (dk_at dksX5_seasonEnds_3 3 rfl rfl)
theorem dX5_seasonEnds_72 : decode cX5_seasonEnds 72 = .ok (.iconst 0, 1) := dk_3 (dk_at dksX5_seasonEnds_3 4 rfl rfl)
theorem dX5_seasonEnds_73 : decode cX5_seasonEnds 73 = .ok (.putfield 30, 3) := dk_181 0 30 (dk_at dksX5_seasonEnds_3 5 rfl rfl)
theorem dX5_seasonEnds_76 : decode cX5_seasonEnds 76 = .ok (.aload_n 0, 1) := dk_42 (dk_at dksX5_seasonEnds_3 8 rfl rfl)
theorem dX5_seasonEnds_77 : decode cX5_seasonEnds 77 = .ok (.lconst 0, 1) := dk_9 (dk_at dksX5_seasonEnds_3 9 rfl rfl)
theorem dX5_seasonEnds_78 : decode cX5_seasonEnds 78 = .ok (.putfield 46, 3) := dk_181 0 46 (dk_at dksX5_seasonEnds_3 10 rfl rfl)
theorem dX5_seasonEnds_81 : decode cX5_seasonEnds 81 = .ok (.aload_n 0, 1) := dk_42 (dk_at dksX5_seasonEnds_3 13 rfl rfl)
theorem dX5_seasonEnds_82 : decode cX5_seasonEnds 82 = .ok (.bipush 100, 2) := dk_16 100 (dk_at dksX5_seasonEnds_3 14 rfl rfl)
theorem dX5_seasonEnds_84 : decode cX5_seasonEnds 84 = .ok (.putfield 9, 3) := dk_181 0 9 (dk_at dksX5_seasonEnds_3 16 rfl rfl)
theorem dX5_seasonEnds_87 : decode cX5_seasonEnds 87 = .ok (.aload_n 0, 1) := dk_42 (dk_at dksX5_seasonEnds_3 19 rfl rfl)
theorem dX5_seasonEnds_88 : decode cX5_seasonEnds 88 = .ok (.iconst 0, 1) := dk_3 (dk_at dksX5_seasonEnds_3 20 rfl rfl)
theorem dX5_seasonEnds_89 : decode cX5_seasonEnds 89 = .ok (.putfield 33, 3) := dk_181 0 33 (dk_at dksX5_seasonEnds_3 21 rfl rfl)
theorem dX5_seasonEnds_92 : decode cX5_seasonEnds 92 = .ok (.aload_n 0, 1) := dk_42 (dk_at dksX5_seasonEnds_4 0 rfl rfl)
theorem dX5_seasonEnds_93 : decode cX5_seasonEnds 93 = .ok (.iconst 0, 1) := dk_3 (dk_at dksX5_seasonEnds_4 1 rfl rfl)
theorem dX5_seasonEnds_94 : decode cX5_seasonEnds 94 = .ok (.putfield 37, 3) := dk_181 0 37 (dk_at dksX5_seasonEnds_4 2 rfl rfl)
theorem dX5_seasonEnds_97 : decode cX5_seasonEnds 97 = .ok (.return_, 1) := dk_177 (dk_at dksX5_seasonEnds_4 5 rfl rfl)
abbrev cX5_changed : ByteArray := prog_10_method_5_code
def yX5_changed : MethodName := ⟨RX5, "changed", "(II)I"⟩
def dkwX5_changed_1 : List UInt8 := [3, 16, 9, 184, 0, 50, 172]
abbrev dktX5_changed_1 : List UInt8 := dkwX5_changed_1 ++ []
def dkwX5_changed_0 : List UInt8 := [27, 154, 0, 7, 3, 167, 0, 25, 27, 28, 96, 42, 180, 0, 37, 153, 0, 7, 6, 167, 0, 4, 3, 100]
abbrev dktX5_changed_0 : List UInt8 := dkwX5_changed_0 ++ dktX5_changed_1
theorem dksX5_changed_0 : cX5_changed.data.toList.drop 0 = dktX5_changed_0 := by decide +kernel
theorem dksX5_changed_1 : cX5_changed.data.toList.drop 24 = dktX5_changed_1 := dk_seg dksX5_changed_0 24 rfl rfl
theorem dX5_changed_0 : decode cX5_changed 0 = .ok (.iload_n 1, 1) := dk_27 (dk_at dksX5_changed_0 0 rfl rfl)
theorem dX5_changed_1 : decode cX5_changed 1 = .ok (.ifCond .ne 7, 3) := dk_154 0 7 (dk_at dksX5_changed_0 1 rfl rfl)
theorem dX5_changed_4 : decode cX5_changed 4 = .ok (.iconst 0, 1) := dk_3 (dk_at dksX5_changed_0 4 rfl rfl)
theorem dX5_changed_5 : decode cX5_changed 5 = .ok (.goto 25, 3) := dk_167 0 25 (dk_at dksX5_changed_0 5 rfl rfl)
theorem dX5_changed_8 : decode cX5_changed 8 = .ok (.iload_n 1, 1) := dk_27 (dk_at dksX5_changed_0 8 rfl rfl)
theorem dX5_changed_9 : decode cX5_changed 9 = .ok (.iload_n 2, 1) := dk_28 (dk_at dksX5_changed_0 9 rfl rfl)
theorem dX5_changed_10 : decode cX5_changed 10 = .ok (.iadd, 1) := dk_96 (dk_at dksX5_changed_0 10 rfl rfl)
theorem dX5_changed_11 : decode cX5_changed 11 = .ok (.aload_n 0, 1) := dk_42 (dk_at dksX5_changed_0 11 rfl rfl)
theorem dX5_changed_12 : decode cX5_changed 12 = .ok (.getfield 37, 3) := dk_180 0 37 (dk_at dksX5_changed_0 12 rfl rfl)
theorem dX5_changed_15 : decode cX5_changed 15 = .ok (.ifCond .eq 7, 3) := dk_153 0 7 (dk_at dksX5_changed_0 15 rfl rfl)
theorem dX5_changed_18 : decode cX5_changed 18 = .ok (.iconst 3, 1) := dk_6 (dk_at dksX5_changed_0 18 rfl rfl)
theorem dX5_changed_19 : decode cX5_changed 19 = .ok (.goto 4, 3) := dk_167 0 4 (dk_at dksX5_changed_0 19 rfl rfl)
theorem dX5_changed_22 : decode cX5_changed 22 = .ok (.iconst 0, 1) := dk_3 (dk_at dksX5_changed_0 22 rfl rfl)
theorem dX5_changed_23 : decode cX5_changed 23 = .ok (.isub, 1) := dk_100 (dk_at dksX5_changed_0 23 rfl rfl)
theorem dX5_changed_24 : decode cX5_changed 24 = .ok (.iconst 0, 1) := dk_3 (dk_at dksX5_changed_1 0 rfl rfl)
theorem dX5_changed_25 : decode cX5_changed 25 = .ok (.bipush 9, 2) := dk_16 9 (dk_at dksX5_changed_1 1 rfl rfl)
theorem dX5_changed_27 : decode cX5_changed 27 = .ok (.invokestatic 50, 3) := dk_184 0 50 (dk_at dksX5_changed_1 3 rfl rfl)
theorem dX5_changed_30 : decode cX5_changed 30 = .ok (.ireturn, 1) := dk_172 (dk_at dksX5_changed_1 6 rfl rfl)
abbrev cX5_far : ByteArray := prog_10_method_7_code
def yX5_far : MethodName := ⟨RX5, "far", "(LCliffHoney$Ledge;)I"⟩
def dkwX5_far_1 : List UInt8 := [16, 10, 108, 96, 172]
abbrev dktX5_far_1 : List UInt8 := dkwX5_far_1 ++ []
def dkwX5_far_0 : List UInt8 := [42, 180, 0, 18, 43, 180, 0, 18, 100, 184, 0, 63, 42, 180, 0, 21, 43, 180, 0, 21, 100, 184, 0, 63]
abbrev dktX5_far_0 : List UInt8 := dkwX5_far_0 ++ dktX5_far_1
theorem dksX5_far_0 : cX5_far.data.toList.drop 0 = dktX5_far_0 := by decide +kernel
theorem dksX5_far_1 : cX5_far.data.toList.drop 24 = dktX5_far_1 := dk_seg dksX5_far_0 24 rfl rfl
theorem dX5_far_0 : decode cX5_far 0 = .ok (.aload_n 0, 1) := dk_42 (dk_at dksX5_far_0 0 rfl rfl)
theorem dX5_far_1 : decode cX5_far 1 = .ok (.getfield 18, 3) := dk_180 0 18 (dk_at dksX5_far_0 1 rfl rfl)
theorem dX5_far_4 : decode cX5_far 4 = .ok (.aload_n 1, 1) := dk_43 (dk_at dksX5_far_0 4 rfl rfl)
theorem dX5_far_5 : decode cX5_far 5 = .ok (.getfield 18, 3) := dk_180 0 18 (dk_at dksX5_far_0 5 rfl rfl)
theorem dX5_far_8 : decode cX5_far 8 = .ok (.isub, 1) := dk_100 (dk_at dksX5_far_0 8 rfl rfl)
theorem dX5_far_9 : decode cX5_far 9 = .ok (.invokestatic 63, 3) := dk_184 0 63 (dk_at dksX5_far_0 9 rfl rfl)
theorem dX5_far_12 : decode cX5_far 12 = .ok (.aload_n 0, 1) := dk_42 (dk_at dksX5_far_0 12 rfl rfl)
theorem dX5_far_13 : decode cX5_far 13 = .ok (.getfield 21, 3) := dk_180 0 21 (dk_at dksX5_far_0 13 rfl rfl)
theorem dX5_far_16 : decode cX5_far 16 = .ok (.aload_n 1, 1) := dk_43 (dk_at dksX5_far_0 16 rfl rfl)
theorem dX5_far_17 : decode cX5_far 17 = .ok (.getfield 21, 3) := dk_180 0 21 (dk_at dksX5_far_0 17 rfl rfl)
theorem dX5_far_20 : decode cX5_far 20 = .ok (.isub, 1) := dk_100 (dk_at dksX5_far_0 20 rfl rfl)
theorem dX5_far_21 : decode cX5_far 21 = .ok (.invokestatic 63, 3) := dk_184 0 63 (dk_at dksX5_far_0 21 rfl rfl)
theorem dX5_far_24 : decode cX5_far 24 = .ok (.bipush 10, 2) := dk_16 10 (dk_at dksX5_far_1 0 rfl rfl)
theorem dX5_far_26 : decode cX5_far 26 = .ok (.idiv, 1) := dk_108 (dk_at dksX5_far_1 2 rfl rfl)
theorem dX5_far_27 : decode cX5_far 27 = .ok (.iadd, 1) := dk_96 (dk_at dksX5_far_1 3 rfl rfl)
theorem dX5_far_28 : decode cX5_far 28 = .ok (.ireturn, 1) := dk_172 (dk_at dksX5_far_1 4 rfl rfl)
abbrev cX5_isCut : ByteArray := prog_10_method_4_code
def yX5_isCut : MethodName := ⟨RX5, "isCut", "(I)J"⟩
def dkwX5_isCut_2 : List UInt8 := [4, 181, 0, 33, 32, 173]
abbrev dktX5_isCut_2 : List UInt8 := dkwX5_isCut_2 ++ []
def dkwX5_isCut_1 : List UInt8 := [42, 180, 0, 30, 108, 181, 0, 9, 42, 27, 181, 0, 30, 42, 89, 180, 0, 46, 32, 101, 181, 0, 46, 42]
abbrev dktX5_isCut_1 : List UInt8 := dkwX5_isCut_1 ++ dktX5_isCut_2
def dkwX5_isCut_0 : List UInt8 := [42, 180, 0, 46, 42, 180, 0, 30, 27, 100, 133, 105, 42, 180, 0, 30, 133, 109, 65, 42, 27, 16, 100, 104]
abbrev dktX5_isCut_0 : List UInt8 := dkwX5_isCut_0 ++ dktX5_isCut_1
theorem dksX5_isCut_0 : cX5_isCut.data.toList.drop 0 = dktX5_isCut_0 := by decide +kernel
theorem dksX5_isCut_1 : cX5_isCut.data.toList.drop 24 = dktX5_isCut_1 := dk_seg dksX5_isCut_0 24 rfl rfl
theorem dksX5_isCut_2 : cX5_isCut.data.toList.drop 48 = dktX5_isCut_2 := dk_seg dksX5_isCut_1 24 rfl rfl
theorem dX5_isCut_0 : decode cX5_isCut 0 = .ok (.aload_n 0, 1) := dk_42 (dk_at dksX5_isCut_0 0 rfl rfl)
theorem dX5_isCut_1 : decode cX5_isCut 1 = .ok (.getfield 46, 3) := dk_180 0 46 (dk_at dksX5_isCut_0 1 rfl rfl)
theorem dX5_isCut_4 : decode cX5_isCut 4 = .ok (.aload_n 0, 1) := dk_42 (dk_at dksX5_isCut_0 4 rfl rfl)
theorem dX5_isCut_5 : decode cX5_isCut 5 = .ok (.getfield 30, 3) := dk_180 0 30 (dk_at dksX5_isCut_0 5 rfl rfl)
theorem dX5_isCut_8 : decode cX5_isCut 8 = .ok (.iload_n 1, 1) := dk_27 (dk_at dksX5_isCut_0 8 rfl rfl)
theorem dX5_isCut_9 : decode cX5_isCut 9 = .ok (.isub, 1) := dk_100 (dk_at dksX5_isCut_0 9 rfl rfl)
theorem dX5_isCut_10 : decode cX5_isCut 10 = .ok (.i2l, 1) := dk_133 (dk_at dksX5_isCut_0 10 rfl rfl)
theorem dX5_isCut_11 : decode cX5_isCut 11 = .ok (.lmul, 1) := dk_105 (dk_at dksX5_isCut_0 11 rfl rfl)
theorem dX5_isCut_12 : decode cX5_isCut 12 = .ok (.aload_n 0, 1) := dk_42 (dk_at dksX5_isCut_0 12 rfl rfl)
theorem dX5_isCut_13 : decode cX5_isCut 13 = .ok (.getfield 30, 3) := dk_180 0 30 (dk_at dksX5_isCut_0 13 rfl rfl)
theorem dX5_isCut_16 : decode cX5_isCut 16 = .ok (.i2l, 1) := dk_133 (dk_at dksX5_isCut_0 16 rfl rfl)
theorem dX5_isCut_17 : decode cX5_isCut 17 = .ok (.ldiv, 1) := dk_109 (dk_at dksX5_isCut_0 17 rfl rfl)
theorem dX5_isCut_18 : decode cX5_isCut 18 = .ok (.lstore_n 2, 1) := dk_65 (dk_at dksX5_isCut_0 18 rfl rfl)
theorem dX5_isCut_19 : decode cX5_isCut 19 = .ok (.aload_n 0, 1) := dk_42 (dk_at dksX5_isCut_0 19 rfl rfl)
theorem dX5_isCut_20 : decode cX5_isCut 20 = .ok (.iload_n 1, 1) := dk_27 (dk_at dksX5_isCut_0 20 rfl rfl)
theorem dX5_isCut_21 : decode cX5_isCut 21 = .ok (.bipush 100, 2) := dk_16 100 (dk_at dksX5_isCut_0 21 rfl rfl)
theorem dX5_isCut_23 : decode cX5_isCut 23 = .ok (.imul, 1) := dk_104 (dk_at dksX5_isCut_0 23 rfl rfl)
theorem dX5_isCut_24 : decode cX5_isCut 24 = .ok (.aload_n 0, 1) := dk_42 (dk_at dksX5_isCut_1 0 rfl rfl)
theorem dX5_isCut_25 : decode cX5_isCut 25 = .ok (.getfield 30, 3) := dk_180 0 30 (dk_at dksX5_isCut_1 1 rfl rfl)
theorem dX5_isCut_28 : decode cX5_isCut 28 = .ok (.idiv, 1) := dk_108 (dk_at dksX5_isCut_1 4 rfl rfl)
theorem dX5_isCut_29 : decode cX5_isCut 29 = .ok (.putfield 9, 3) := dk_181 0 9 (dk_at dksX5_isCut_1 5 rfl rfl)
theorem dX5_isCut_32 : decode cX5_isCut 32 = .ok (.aload_n 0, 1) := dk_42 (dk_at dksX5_isCut_1 8 rfl rfl)
theorem dX5_isCut_33 : decode cX5_isCut 33 = .ok (.iload_n 1, 1) := dk_27 (dk_at dksX5_isCut_1 9 rfl rfl)
theorem dX5_isCut_34 : decode cX5_isCut 34 = .ok (.putfield 30, 3) := dk_181 0 30 (dk_at dksX5_isCut_1 10 rfl rfl)
theorem dX5_isCut_37 : decode cX5_isCut 37 = .ok (.aload_n 0, 1) := dk_42 (dk_at dksX5_isCut_1 13 rfl rfl)
theorem dX5_isCut_38 : decode cX5_isCut 38 = .ok (.dup, 1) := dk_89 (dk_at dksX5_isCut_1 14 rfl rfl)
theorem dX5_isCut_39 : decode cX5_isCut 39 = .ok (.getfield 46, 3) := dk_180 0 46 (dk_at dksX5_isCut_1 15 rfl rfl)
theorem dX5_isCut_42 : decode cX5_isCut 42 = .ok (.lload_n 2, 1) := dk_32 (dk_at dksX5_isCut_1 18 rfl rfl)
theorem dX5_isCut_43 : decode cX5_isCut 43 = .ok (.lsub, 1) := dk_101 (dk_at dksX5_isCut_1 19 rfl rfl)
theorem dX5_isCut_44 : decode cX5_isCut 44 = .ok (.putfield 46, 3) := dk_181 0 46 (dk_at dksX5_isCut_1 20 rfl rfl)
theorem dX5_isCut_47 : decode cX5_isCut 47 = .ok (.aload_n 0, 1) := dk_42 (dk_at dksX5_isCut_1 23 rfl rfl)
theorem dX5_isCut_48 : decode cX5_isCut 48 = .ok (.iconst 1, 1) := dk_4 (dk_at dksX5_isCut_2 0 rfl rfl)
theorem dX5_isCut_49 : decode cX5_isCut 49 = .ok (.putfield 33, 3) := dk_181 0 33 (dk_at dksX5_isCut_2 1 rfl rfl)
theorem dX5_isCut_52 : decode cX5_isCut 52 = .ok (.lload_n 2, 1) := dk_32 (dk_at dksX5_isCut_2 4 rfl rfl)
theorem dX5_isCut_53 : decode cX5_isCut 53 = .ok (.lreturn, 1) := dk_173 (dk_at dksX5_isCut_2 5 rfl rfl)
abbrev cX5_become : ByteArray := prog_10_method_2_code
def yX5_become : MethodName := ⟨RX5, "become", "(LCliffHoney$Ledge;)V"⟩
def dkwX5_become_1 : List UInt8 := [42, 43, 180, 0, 33, 181, 0, 33, 42, 43, 180, 0, 37, 181, 0, 37, 177]
abbrev dktX5_become_1 : List UInt8 := dkwX5_become_1 ++ []
def dkwX5_become_0 : List UInt8 := [42, 43, 180, 0, 24, 181, 0, 24, 42, 43, 180, 0, 30, 181, 0, 30, 42, 43, 180, 0, 9, 181, 0, 9]
abbrev dktX5_become_0 : List UInt8 := dkwX5_become_0 ++ dktX5_become_1
theorem dksX5_become_0 : cX5_become.data.toList.drop 0 = dktX5_become_0 := by decide +kernel
theorem dksX5_become_1 : cX5_become.data.toList.drop 24 = dktX5_become_1 := dk_seg dksX5_become_0 24 rfl rfl
theorem dX5_become_0 : decode cX5_become 0 = .ok (.aload_n 0, 1) := dk_42 (dk_at dksX5_become_0 0 rfl rfl)
theorem dX5_become_1 : decode cX5_become 1 = .ok (.aload_n 1, 1) := dk_43 (dk_at dksX5_become_0 1 rfl rfl)
theorem dX5_become_2 : decode cX5_become 2 = .ok (.getfield 24, 3) := dk_180 0 24 (dk_at dksX5_become_0 2 rfl rfl)
theorem dX5_become_5 : decode cX5_become 5 = .ok (.putfield 24, 3) := dk_181 0 24 (dk_at dksX5_become_0 5 rfl rfl)
theorem dX5_become_8 : decode cX5_become 8 = .ok (.aload_n 0, 1) := dk_42 (dk_at dksX5_become_0 8 rfl rfl)
theorem dX5_become_9 : decode cX5_become 9 = .ok (.aload_n 1, 1) := dk_43 (dk_at dksX5_become_0 9 rfl rfl)
theorem dX5_become_10 : decode cX5_become 10 = .ok (.getfield 30, 3) := dk_180 0 30 (dk_at dksX5_become_0 10 rfl rfl)
theorem dX5_become_13 : decode cX5_become 13 = .ok (.putfield 30, 3) := dk_181 0 30 (dk_at dksX5_become_0 13 rfl rfl)
theorem dX5_become_16 : decode cX5_become 16 = .ok (.aload_n 0, 1) := dk_42 (dk_at dksX5_become_0 16 rfl rfl)
theorem dX5_become_17 : decode cX5_become 17 = .ok (.aload_n 1, 1) := dk_43 (dk_at dksX5_become_0 17 rfl rfl)
theorem dX5_become_18 : decode cX5_become 18 = .ok (.getfield 9, 3) := dk_180 0 9 (dk_at dksX5_become_0 18 rfl rfl)
theorem dX5_become_21 : decode cX5_become 21 = .ok (.putfield 9, 3) := dk_181 0 9 (dk_at dksX5_become_0 21 rfl rfl)
theorem dX5_become_24 : decode cX5_become 24 = .ok (.aload_n 0, 1) := dk_42 (dk_at dksX5_become_1 0 rfl rfl)
theorem dX5_become_25 : decode cX5_become 25 = .ok (.aload_n 1, 1) := dk_43 (dk_at dksX5_become_1 1 rfl rfl)
theorem dX5_become_26 : decode cX5_become 26 = .ok (.getfield 33, 3) := dk_180 0 33 (dk_at dksX5_become_1 2 rfl rfl)
theorem dX5_become_29 : decode cX5_become 29 = .ok (.putfield 33, 3) := dk_181 0 33 (dk_at dksX5_become_1 5 rfl rfl)
theorem dX5_become_32 : decode cX5_become 32 = .ok (.aload_n 0, 1) := dk_42 (dk_at dksX5_become_1 8 rfl rfl)
theorem dX5_become_33 : decode cX5_become 33 = .ok (.aload_n 1, 1) := dk_43 (dk_at dksX5_become_1 9 rfl rfl)
theorem dX5_become_34 : decode cX5_become 34 = .ok (.getfield 37, 3) := dk_180 0 37 (dk_at dksX5_become_1 10 rfl rfl)
theorem dX5_become_37 : decode cX5_become 37 = .ok (.putfield 37, 3) := dk_181 0 37 (dk_at dksX5_become_1 13 rfl rfl)
theorem dX5_become_40 : decode cX5_become 40 = .ok (.return_, 1) := dk_177 (dk_at dksX5_become_1 16 rfl rfl)
theorem q105 : (Jvm.Cond.initialized "CliffHoney$Ledge") ∈ lw_all := lw_g (lw_at lw_m1 8 rfl) rfl
theorem q481 : (Jvm.Cond.instantiable "CliffHoney$Ledge" (11 : Nat)) ∈ lw_all := lw_g (lw_at lw_m2 144 rfl) rfl
theorem q483 : (Jvm.Cond.instanceMethod ({ cls := "CliffHoney$Ledge", name := "<init>", desc := "(IIII)V" } : Jvm.MethodName)) ∈ lw_all := lw_g (lw_at lw_m2 146 rfl) rfl
theorem q484 : (Jvm.Cond.code ({ cls := "CliffHoney$Ledge", name := "<init>", desc := "(IIII)V" } : Jvm.MethodName) prog_10_method_1_code (5 : Nat) (Option.none : Option Jvm.ClassFile.FieldType)) ∈ lw_all := lw_g (lw_at lw_m2 147 rfl) rfl
theorem q485 : (Jvm.Cond.methodLink "CliffHoney$Ledge" (3 : Nat) ({ cls := "java/lang/Object", name := "<init>", desc := "()V" } : Jvm.MethodName)) ∈ lw_all := lw_g (lw_at lw_m2 148 rfl) rfl
theorem q486 : (Jvm.Cond.fieldLink "CliffHoney$Ledge" (18 : Nat) "CliffHoney$Ledge" "column" "I") ∈ lw_all := lw_g (lw_at lw_m2 149 rfl) rfl
theorem q488 : (Jvm.Cond.fieldLink "CliffHoney$Ledge" (21 : Nat) "CliffHoney$Ledge" "height" "I") ∈ lw_all := lw_g (lw_at lw_m2 151 rfl) rfl
theorem q490 : (Jvm.Cond.fieldLink "CliffHoney$Ledge" (27 : Nat) "CliffHoney$Ledge" "finder" "I") ∈ lw_all := lw_g (lw_at lw_m2 153 rfl) rfl
theorem q493 : (Jvm.Cond.fieldLink "CliffHoney$Ledge" (24 : Nat) "CliffHoney$Ledge" "strength" "I") ∈ lw_all := lw_g (lw_at lw_m2 156 rfl) rfl
theorem q495 : (Jvm.Cond.fieldLink "CliffHoney$Ledge" (30 : Nat) "CliffHoney$Ledge" "comb" "I") ∈ lw_all := lw_g (lw_at lw_m2 158 rfl) rfl
theorem q497 : (Jvm.Cond.fieldLink "CliffHoney$Ledge" (9 : Nat) "CliffHoney$Ledge" "kept" "I") ∈ lw_all := lw_g (lw_at lw_m2 160 rfl) rfl
theorem q499 : (Jvm.Cond.fieldLink "CliffHoney$Ledge" (57 : Nat) "CliffHoney$Ledge" "low" "I") ∈ lw_all := lw_g (lw_at lw_m2 162 rfl) rfl
theorem q501 : (Jvm.Cond.fieldLink "CliffHoney$Ledge" (15 : Nat) "CliffHoney$Ledge" "high" "I") ∈ lw_all := lw_g (lw_at lw_m2 164 rfl) rfl
theorem q503 : (Jvm.Cond.fieldLink "CliffHoney$Ledge" (46 : Nat) "CliffHoney$Ledge" "madness" "J") ∈ lw_all := lw_g (lw_at lw_m2 166 rfl) rfl
theorem q505 : (Jvm.Cond.fieldLink "CliffHoney$Ledge" (33 : Nat) "CliffHoney$Ledge" "isCut" "Z") ∈ lw_all := lw_g (lw_at lw_m2 168 rfl) rfl
theorem q507 : (Jvm.Cond.fieldLink "CliffHoney$Ledge" (37 : Nat) "CliffHoney$Ledge" "isSprayed" "Z") ∈ lw_all := lw_g (lw_at lw_m2 170 rfl) rfl
theorem q509 : (Jvm.Cond.laysFinal "CliffHoney$Ledge" "CliffHoney$Ledge" "column" "I") ∈ lw_all := lw_g (lw_at lw_m2 172 rfl) rfl
theorem q510 : (Jvm.Cond.soleField "CliffHoney$Ledge" "column") ∈ lw_all := lw_g (lw_at lw_m2 173 rfl) rfl
theorem q511 : (Jvm.Cond.laysFinal "CliffHoney$Ledge" "CliffHoney$Ledge" "height" "I") ∈ lw_all := lw_g (lw_at lw_m2 174 rfl) rfl
theorem q512 : (Jvm.Cond.soleField "CliffHoney$Ledge" "height") ∈ lw_all := lw_g (lw_at lw_m2 175 rfl) rfl
theorem q513 : (Jvm.Cond.laysFinal "CliffHoney$Ledge" "CliffHoney$Ledge" "finder" "I") ∈ lw_all := lw_g (lw_at lw_m2 176 rfl) rfl
theorem q514 : (Jvm.Cond.soleField "CliffHoney$Ledge" "finder") ∈ lw_all := lw_g (lw_at lw_m2 177 rfl) rfl
theorem q515 : (Jvm.Cond.lays "CliffHoney$Ledge" "CliffHoney$Ledge" "strength" "I") ∈ lw_all := lw_g (lw_at lw_m2 178 rfl) rfl
theorem q516 : (Jvm.Cond.soleField "CliffHoney$Ledge" "strength") ∈ lw_all := lw_g (lw_at lw_m2 179 rfl) rfl
theorem q517 : (Jvm.Cond.lays "CliffHoney$Ledge" "CliffHoney$Ledge" "comb" "I") ∈ lw_all := lw_g (lw_at lw_m2 180 rfl) rfl
theorem q518 : (Jvm.Cond.soleField "CliffHoney$Ledge" "comb") ∈ lw_all := lw_g (lw_at lw_m2 181 rfl) rfl
theorem q519 : (Jvm.Cond.lays "CliffHoney$Ledge" "CliffHoney$Ledge" "kept" "I") ∈ lw_all := lw_g (lw_at lw_m2 182 rfl) rfl
theorem q520 : (Jvm.Cond.soleField "CliffHoney$Ledge" "kept") ∈ lw_all := lw_g (lw_at lw_m2 183 rfl) rfl
theorem q521 : (Jvm.Cond.lays "CliffHoney$Ledge" "CliffHoney$Ledge" "low" "I") ∈ lw_all := lw_g (lw_at lw_m2 184 rfl) rfl
theorem q522 : (Jvm.Cond.soleField "CliffHoney$Ledge" "low") ∈ lw_all := lw_g (lw_at lw_m2 185 rfl) rfl
theorem q523 : (Jvm.Cond.lays "CliffHoney$Ledge" "CliffHoney$Ledge" "high" "I") ∈ lw_all := lw_g (lw_at lw_m2 186 rfl) rfl
theorem q524 : (Jvm.Cond.soleField "CliffHoney$Ledge" "high") ∈ lw_all := lw_g (lw_at lw_m2 187 rfl) rfl
theorem q525 : (Jvm.Cond.lays "CliffHoney$Ledge" "CliffHoney$Ledge" "madness" "J") ∈ lw_all := lw_g (lw_at lw_m2 188 rfl) rfl
theorem q526 : (Jvm.Cond.soleField "CliffHoney$Ledge" "madness") ∈ lw_all := lw_g (lw_at lw_m2 189 rfl) rfl
theorem q527 : (Jvm.Cond.lays "CliffHoney$Ledge" "CliffHoney$Ledge" "isCut" "Z") ∈ lw_all := lw_g (lw_at lw_m2 190 rfl) rfl
theorem q528 : (Jvm.Cond.soleField "CliffHoney$Ledge" "isCut") ∈ lw_all := lw_g (lw_at lw_m2 191 rfl) rfl
theorem q529 : (Jvm.Cond.lays "CliffHoney$Ledge" "CliffHoney$Ledge" "isSprayed" "Z") ∈ lw_all := lw_g (lw_at lw_m2 192 rfl) rfl
theorem q530 : (Jvm.Cond.soleField "CliffHoney$Ledge" "isSprayed") ∈ lw_all := lw_g (lw_at lw_m2 193 rfl) rfl
theorem q531 : (Jvm.Cond.superclass "CliffHoney$Ledge" "java/lang/Object") ∈ lw_all := lw_g (lw_at lw_m2 194 rfl) rfl
theorem q559 : (Jvm.Cond.instanceMethod ({ cls := "CliffHoney$Ledge", name := "grows", desc := "(II)V" } : Jvm.MethodName)) ∈ lw_all := lw_g (lw_at lw_m2 222 rfl) rfl
theorem q560 : (Jvm.Cond.selects "CliffHoney$Ledge" ({ cls := "CliffHoney$Ledge", name := "grows", desc := "(II)V" } : Jvm.MethodName) ({ cls := "CliffHoney$Ledge", name := "grows", desc := "(II)V" } : Jvm.MethodName)) ∈ lw_all := lw_g (lw_at lw_m2 223 rfl) rfl
theorem q561 : (Jvm.Cond.code ({ cls := "CliffHoney$Ledge", name := "grows", desc := "(II)V" } : Jvm.MethodName) prog_10_method_3_code (4 : Nat) (Option.none : Option Jvm.ClassFile.FieldType)) ∈ lw_all := lw_g (lw_at lw_m2 224 rfl) rfl
theorem q562 : (Jvm.Cond.methodLink "CliffHoney$Ledge" (40 : Nat) ({ cls := "java/lang/Math", name := "min", desc := "(II)I" } : Jvm.MethodName)) ∈ lw_all := lw_g (lw_at lw_m2 225 rfl) rfl
theorem q570 : (Jvm.Cond.instanceMethod ({ cls := "CliffHoney$Ledge", name := "seasonEnds", desc := "()V" } : Jvm.MethodName)) ∈ lw_all := lw_g (lw_at lw_m2 233 rfl) rfl
theorem q571 : (Jvm.Cond.selects "CliffHoney$Ledge" ({ cls := "CliffHoney$Ledge", name := "seasonEnds", desc := "()V" } : Jvm.MethodName) ({ cls := "CliffHoney$Ledge", name := "seasonEnds", desc := "()V" } : Jvm.MethodName)) ∈ lw_all := lw_g (lw_at lw_m2 234 rfl) rfl
theorem q572 : (Jvm.Cond.code ({ cls := "CliffHoney$Ledge", name := "seasonEnds", desc := "()V" } : Jvm.MethodName) prog_10_method_6_code (1 : Nat) (Option.none : Option Jvm.ClassFile.FieldType)) ∈ lw_all := lw_g (lw_at lw_m2 235 rfl) rfl
theorem q573 : (Jvm.Cond.methodLink "CliffHoney$Ledge" (54 : Nat) ({ cls := "CliffHoney$Ledge", name := "changed", desc := "(II)I" } : Jvm.MethodName)) ∈ lw_all := lw_g (lw_at lw_m2 236 rfl) rfl
theorem q574 : (Jvm.Cond.privateMethod ({ cls := "CliffHoney$Ledge", name := "changed", desc := "(II)I" } : Jvm.MethodName)) ∈ lw_tbl := lw_at lw_m2 237 rfl
theorem q575 : (Jvm.Cond.instanceMethod ({ cls := "CliffHoney$Ledge", name := "changed", desc := "(II)I" } : Jvm.MethodName)) ∈ lw_all := lw_g (lw_at lw_m2 238 rfl) rfl
theorem q576 : (Jvm.Cond.code ({ cls := "CliffHoney$Ledge", name := "changed", desc := "(II)I" } : Jvm.MethodName) prog_10_method_5_code (3 : Nat) (Option.some Jvm.ClassFile.FieldType.int)) ∈ lw_all := lw_g (lw_at lw_m2 239 rfl) rfl
theorem q577 : (Jvm.Cond.methodLinkNest "CliffHoney$Ledge" (50 : Nat) ({ cls := "CliffHoney", name := "clamp", desc := "(III)I" } : Jvm.MethodName) "CliffHoney") ∈ lw_tbl := lw_at lw_m3 0 rfl
theorem q584 : (Jvm.Cond.methodLink "CliffHoney$Ledge" (60 : Nat) ({ cls := "java/lang/Math", name := "max", desc := "(II)I" } : Jvm.MethodName)) ∈ lw_all := lw_g (lw_at lw_m3 7 rfl) rfl
theorem q590 : (Jvm.Cond.instanceMethod ({ cls := "CliffHoney$Ledge", name := "far", desc := "(LCliffHoney$Ledge;)I" } : Jvm.MethodName)) ∈ lw_all := lw_g (lw_at lw_m3 13 rfl) rfl
theorem q591 : (Jvm.Cond.selects "CliffHoney$Ledge" ({ cls := "CliffHoney$Ledge", name := "far", desc := "(LCliffHoney$Ledge;)I" } : Jvm.MethodName) ({ cls := "CliffHoney$Ledge", name := "far", desc := "(LCliffHoney$Ledge;)I" } : Jvm.MethodName)) ∈ lw_all := lw_g (lw_at lw_m3 14 rfl) rfl
theorem q592 : (Jvm.Cond.code ({ cls := "CliffHoney$Ledge", name := "far", desc := "(LCliffHoney$Ledge;)I" } : Jvm.MethodName) prog_10_method_7_code (2 : Nat) (Option.some Jvm.ClassFile.FieldType.int)) ∈ lw_all := lw_g (lw_at lw_m3 15 rfl) rfl
theorem q593 : (Jvm.Cond.methodLink "CliffHoney$Ledge" (63 : Nat) ({ cls := "java/lang/Math", name := "abs", desc := "(I)I" } : Jvm.MethodName)) ∈ lw_all := lw_g (lw_at lw_m3 16 rfl) rfl
theorem q1272 : (Jvm.Cond.instanceMethod ({ cls := "CliffHoney$Ledge", name := "isCut", desc := "(I)J" } : Jvm.MethodName)) ∈ lw_all := lw_g (lw_at lw_m5 215 rfl) rfl
theorem q1273 : (Jvm.Cond.selects "CliffHoney$Ledge" ({ cls := "CliffHoney$Ledge", name := "isCut", desc := "(I)J" } : Jvm.MethodName) ({ cls := "CliffHoney$Ledge", name := "isCut", desc := "(I)J" } : Jvm.MethodName)) ∈ lw_all := lw_g (lw_at lw_m5 216 rfl) rfl
theorem q1274 : (Jvm.Cond.code ({ cls := "CliffHoney$Ledge", name := "isCut", desc := "(I)J" } : Jvm.MethodName) prog_10_method_4_code (4 : Nat) (Option.some Jvm.ClassFile.FieldType.long)) ∈ lw_all := lw_g (lw_at lw_m5 217 rfl) rfl
theorem q1502 : (Jvm.Cond.instanceMethod ({ cls := "CliffHoney$Ledge", name := "become", desc := "(LCliffHoney$Ledge;)V" } : Jvm.MethodName)) ∈ lw_all := lw_g (lw_at lw_m6 205 rfl) rfl
theorem q1503 : (Jvm.Cond.selects "CliffHoney$Ledge" ({ cls := "CliffHoney$Ledge", name := "become", desc := "(LCliffHoney$Ledge;)V" } : Jvm.MethodName) ({ cls := "CliffHoney$Ledge", name := "become", desc := "(LCliffHoney$Ledge;)V" } : Jvm.MethodName)) ∈ lw_all := lw_g (lw_at lw_m6 206 rfl) rfl
theorem q1504 : (Jvm.Cond.code ({ cls := "CliffHoney$Ledge", name := "become", desc := "(LCliffHoney$Ledge;)V" } : Jvm.MethodName) prog_10_method_2_code (2 : Nat) (Option.none : Option Jvm.ClassFile.FieldType)) ∈ lw_all := lw_g (lw_at lw_m6 207 rfl) rfl
theorem in_X5 : ∀ w ∈ wsX50, w ∈ lw_all := lw_in wsX50 [509, 511, 513, 515, 517, 519, 521, 523, 525, 527, 529] (by decide +kernel) (by decide +kernel)

/-! CliffHoney$Term -/
set_option maxRecDepth 100000
def RX6 : String := "CliffHoney$Term"
abbrev cX6_init : ByteArray := prog_20_method_1_code
def yX6_init : MethodName := ⟨RX6, "<init>", "()V"⟩
theorem dX6_init_0 : decode cX6_init 0 = .ok (.aload_n 0, 1) := by decide +kernel
theorem dX6_init_1 : decode cX6_init 1 = .ok (.invokespecial 1, 3) := by decide +kernel
theorem dX6_init_4 : decode cX6_init 4 = .ok (.return_, 1) := by decide +kernel
theorem q117 : (Jvm.Cond.initialized "CliffHoney$Term") ∈ lw_all := lw_g (lw_at lw_m1 20 rfl) rfl
theorem q945 : (Jvm.Cond.instanceMethod ({ cls := "CliffHoney$Term", name := "<init>", desc := "()V" } : Jvm.MethodName)) ∈ lw_all := lw_g (lw_at lw_m4 128 rfl) rfl
theorem q946 : (Jvm.Cond.code ({ cls := "CliffHoney$Term", name := "<init>", desc := "()V" } : Jvm.MethodName) prog_20_method_1_code (1 : Nat) (Option.none : Option Jvm.ClassFile.FieldType)) ∈ lw_all := lw_g (lw_at lw_m4 129 rfl) rfl
theorem q947 : (Jvm.Cond.methodLink "CliffHoney$Term" (1 : Nat) ({ cls := "java/lang/Object", name := "<init>", desc := "()V" } : Jvm.MethodName)) ∈ lw_all := lw_g (lw_at lw_m4 130 rfl) rfl
theorem q1129 : (Jvm.Cond.declares ({ cls := "CliffHoney$Term", name := "of", desc := "([I)I" } : Jvm.MethodName)) ∈ lw_tbl := lw_at lw_m5 72 rfl
theorem q1130 : (Jvm.Cond.sameMethod "CliffHoney$Term" "CliffHoney$Term" "of" "([I)I") ∈ lw_all := lw_g (lw_at lw_m5 73 rfl) rfl

/-! CliffHoney$Asked -/
set_option maxRecDepth 100000
def RX7 : String := "CliffHoney$Asked"
def TX7 : u_T := fun k => match k with
  | _ => ("CliffHoney$Asked", "what", "I", true)
def tyX7 : Nat → FieldType := fun k => match k with
  | _ => .int
abbrev wsX70 : List Cond := u_ws RX7 TX7 1
theorem nmX7 : ∀ a, a < 1 → ∀ b, b < 1 → a ≠ b → (TX7 a).2.1 ≠ (TX7 b).2.1 := by decide +kernel
theorem tyX7_ok : ∀ k, k < 1 → parseFieldDescriptor (TX7 k).2.2.1 = some (tyX7 k) := by decide +kernel
abbrev cX7_init : ByteArray := prog_2_method_1_code
def yX7_init : MethodName := ⟨RX7, "<init>", "(I)V"⟩
def dkwX7_init_0 : List UInt8 := [42, 183, 0, 1, 42, 27, 181, 0, 7, 177]
abbrev dktX7_init_0 : List UInt8 := dkwX7_init_0 ++ []
theorem dksX7_init_0 : cX7_init.data.toList.drop 0 = dktX7_init_0 := by decide +kernel
theorem dX7_init_0 : decode cX7_init 0 = .ok (.aload_n 0, 1) := dk_42 (dk_at dksX7_init_0 0 rfl rfl)
theorem dX7_init_1 : decode cX7_init 1 = .ok (.invokespecial 1, 3) := dk_183 0 1 (dk_at dksX7_init_0 1 rfl rfl)
theorem dX7_init_4 : decode cX7_init 4 = .ok (.aload_n 0, 1) := dk_42 (dk_at dksX7_init_0 4 rfl rfl)
theorem dX7_init_5 : decode cX7_init 5 = .ok (.iload_n 1, 1) := dk_27 (dk_at dksX7_init_0 5 rfl rfl)
theorem dX7_init_6 : decode cX7_init 6 = .ok (.putfield 7, 3) := dk_181 0 7 (dk_at dksX7_init_0 6 rfl rfl)
theorem dX7_init_9 : decode cX7_init 9 = .ok (.return_, 1) := dk_177 (dk_at dksX7_init_0 9 rfl rfl)
abbrev cX7_of : ByteArray := prog_2_method_2_code
def yX7_of : MethodName := ⟨RX7, "of", "([I)I"⟩
def dkwX7_of_0 : List UInt8 := [43, 42, 180, 0, 7, 46, 172]
abbrev dktX7_of_0 : List UInt8 := dkwX7_of_0 ++ []
theorem dksX7_of_0 : cX7_of.data.toList.drop 0 = dktX7_of_0 := by decide +kernel
theorem dX7_of_0 : decode cX7_of 0 = .ok (.aload_n 1, 1) := dk_43 (dk_at dksX7_of_0 0 rfl rfl)
theorem dX7_of_1 : decode cX7_of 1 = .ok (.aload_n 0, 1) := dk_42 (dk_at dksX7_of_0 1 rfl rfl)
theorem dX7_of_2 : decode cX7_of 2 = .ok (.getfield 7, 3) := dk_180 0 7 (dk_at dksX7_of_0 2 rfl rfl)
theorem dX7_of_5 : decode cX7_of 5 = .ok (.iaload, 1) := dk_46 (dk_at dksX7_of_0 5 rfl rfl)
theorem dX7_of_6 : decode cX7_of 6 = .ok (.ireturn, 1) := dk_172 (dk_at dksX7_of_0 6 rfl rfl)
theorem q118 : (Jvm.Cond.initialized "CliffHoney$Asked") ∈ lw_all := lw_g (lw_at lw_m1 21 rfl) rfl
theorem q940 : (Jvm.Cond.instantiable "CliffHoney$Asked" (1 : Nat)) ∈ lw_all := lw_g (lw_at lw_m4 123 rfl) rfl
theorem q942 : (Jvm.Cond.instanceMethod ({ cls := "CliffHoney$Asked", name := "<init>", desc := "(I)V" } : Jvm.MethodName)) ∈ lw_all := lw_g (lw_at lw_m4 125 rfl) rfl
theorem q943 : (Jvm.Cond.code ({ cls := "CliffHoney$Asked", name := "<init>", desc := "(I)V" } : Jvm.MethodName) prog_2_method_1_code (2 : Nat) (Option.none : Option Jvm.ClassFile.FieldType)) ∈ lw_all := lw_g (lw_at lw_m4 126 rfl) rfl
theorem q944 : (Jvm.Cond.methodLinkNest "CliffHoney$Asked" (1 : Nat) ({ cls := "CliffHoney$Term", name := "<init>", desc := "()V" } : Jvm.MethodName) "CliffHoney") ∈ lw_tbl := lw_at lw_m4 127 rfl
theorem q948 : (Jvm.Cond.fieldLink "CliffHoney$Asked" (7 : Nat) "CliffHoney$Asked" "what" "I") ∈ lw_all := lw_g (lw_at lw_m4 131 rfl) rfl
theorem q949 : (Jvm.Cond.laysFinal "CliffHoney$Asked" "CliffHoney$Asked" "what" "I") ∈ lw_all := lw_g (lw_at lw_m4 132 rfl) rfl
theorem q950 : (Jvm.Cond.soleField "CliffHoney$Asked" "what") ∈ lw_all := lw_g (lw_at lw_m4 133 rfl) rfl
theorem q951 : (Jvm.Cond.superclass "CliffHoney$Asked" "CliffHoney$Term") ∈ lw_all := lw_g (lw_at lw_m4 134 rfl) rfl
theorem q1131 : (Jvm.Cond.selects "CliffHoney$Asked" ({ cls := "CliffHoney$Term", name := "of", desc := "([I)I" } : Jvm.MethodName) ({ cls := "CliffHoney$Asked", name := "of", desc := "([I)I" } : Jvm.MethodName)) ∈ lw_all := lw_g (lw_at lw_m5 74 rfl) rfl
theorem q1132 : (Jvm.Cond.instanceMethod ({ cls := "CliffHoney$Asked", name := "of", desc := "([I)I" } : Jvm.MethodName)) ∈ lw_all := lw_g (lw_at lw_m5 75 rfl) rfl
theorem q1133 : (Jvm.Cond.code ({ cls := "CliffHoney$Asked", name := "of", desc := "([I)I" } : Jvm.MethodName) prog_2_method_2_code (2 : Nat) (Option.some Jvm.ClassFile.FieldType.int)) ∈ lw_all := lw_g (lw_at lw_m5 76 rfl) rfl
theorem in_X7 : ∀ w ∈ wsX70, w ∈ lw_all := lw_in wsX70 [949] (by decide +kernel) (by decide +kernel)

/-! CliffHoney$Plain -/
set_option maxRecDepth 100000
def RX8 : String := "CliffHoney$Plain"
def TX8 : u_T := fun k => match k with
  | _ => ("CliffHoney$Plain", "v", "I", true)
def tyX8 : Nat → FieldType := fun k => match k with
  | _ => .int
abbrev wsX80 : List Cond := u_ws RX8 TX8 1
theorem nmX8 : ∀ a, a < 1 → ∀ b, b < 1 → a ≠ b → (TX8 a).2.1 ≠ (TX8 b).2.1 := by decide +kernel
theorem tyX8_ok : ∀ k, k < 1 → parseFieldDescriptor (TX8 k).2.2.1 = some (tyX8 k) := by decide +kernel
abbrev cX8_init : ByteArray := prog_17_method_1_code
def yX8_init : MethodName := ⟨RX8, "<init>", "(I)V"⟩
def dkwX8_init_0 : List UInt8 := [42, 183, 0, 1, 42, 27, 181, 0, 7, 177]
abbrev dktX8_init_0 : List UInt8 := dkwX8_init_0 ++ []
theorem dksX8_init_0 : cX8_init.data.toList.drop 0 = dktX8_init_0 := by decide +kernel
theorem dX8_init_0 : decode cX8_init 0 = .ok (.aload_n 0, 1) := dk_42 (dk_at dksX8_init_0 0 rfl rfl)
theorem dX8_init_1 : decode cX8_init 1 = .ok (.invokespecial 1, 3) := dk_183 0 1 (dk_at dksX8_init_0 1 rfl rfl)
theorem dX8_init_4 : decode cX8_init 4 = .ok (.aload_n 0, 1) := dk_42 (dk_at dksX8_init_0 4 rfl rfl)
theorem dX8_init_5 : decode cX8_init 5 = .ok (.iload_n 1, 1) := dk_27 (dk_at dksX8_init_0 5 rfl rfl)
theorem dX8_init_6 : decode cX8_init 6 = .ok (.putfield 7, 3) := dk_181 0 7 (dk_at dksX8_init_0 6 rfl rfl)
theorem dX8_init_9 : decode cX8_init 9 = .ok (.return_, 1) := dk_177 (dk_at dksX8_init_0 9 rfl rfl)
abbrev cX8_of : ByteArray := prog_17_method_2_code
def yX8_of : MethodName := ⟨RX8, "of", "([I)I"⟩
theorem dX8_of_0 : decode cX8_of 0 = .ok (.aload_n 0, 1) := by decide +kernel
theorem dX8_of_1 : decode cX8_of 1 = .ok (.getfield 7, 3) := by decide +kernel
theorem dX8_of_4 : decode cX8_of 4 = .ok (.ireturn, 1) := by decide +kernel
theorem q119 : (Jvm.Cond.initialized "CliffHoney$Plain") ∈ lw_all := lw_g (lw_at lw_m1 22 rfl) rfl
theorem q953 : (Jvm.Cond.instantiable "CliffHoney$Plain" (1 : Nat)) ∈ lw_all := lw_g (lw_at lw_m4 136 rfl) rfl
theorem q955 : (Jvm.Cond.instanceMethod ({ cls := "CliffHoney$Plain", name := "<init>", desc := "(I)V" } : Jvm.MethodName)) ∈ lw_all := lw_g (lw_at lw_m4 138 rfl) rfl
theorem q956 : (Jvm.Cond.code ({ cls := "CliffHoney$Plain", name := "<init>", desc := "(I)V" } : Jvm.MethodName) prog_17_method_1_code (2 : Nat) (Option.none : Option Jvm.ClassFile.FieldType)) ∈ lw_all := lw_g (lw_at lw_m4 139 rfl) rfl
theorem q957 : (Jvm.Cond.methodLinkNest "CliffHoney$Plain" (1 : Nat) ({ cls := "CliffHoney$Term", name := "<init>", desc := "()V" } : Jvm.MethodName) "CliffHoney") ∈ lw_tbl := lw_at lw_m4 140 rfl
theorem q958 : (Jvm.Cond.fieldLink "CliffHoney$Plain" (7 : Nat) "CliffHoney$Plain" "v" "I") ∈ lw_all := lw_g (lw_at lw_m4 141 rfl) rfl
theorem q959 : (Jvm.Cond.laysFinal "CliffHoney$Plain" "CliffHoney$Plain" "v" "I") ∈ lw_all := lw_g (lw_at lw_m4 142 rfl) rfl
theorem q960 : (Jvm.Cond.soleField "CliffHoney$Plain" "v") ∈ lw_all := lw_g (lw_at lw_m4 143 rfl) rfl
theorem q961 : (Jvm.Cond.superclass "CliffHoney$Plain" "CliffHoney$Term") ∈ lw_all := lw_g (lw_at lw_m4 144 rfl) rfl
theorem q1138 : (Jvm.Cond.instanceMethod ({ cls := "CliffHoney$Plain", name := "of", desc := "([I)I" } : Jvm.MethodName)) ∈ lw_all := lw_g (lw_at lw_m5 81 rfl) rfl
theorem q1139 : (Jvm.Cond.code ({ cls := "CliffHoney$Plain", name := "of", desc := "([I)I" } : Jvm.MethodName) prog_17_method_2_code (2 : Nat) (Option.some Jvm.ClassFile.FieldType.int)) ∈ lw_all := lw_g (lw_at lw_m5 82 rfl) rfl
theorem q1143 : (Jvm.Cond.selects "CliffHoney$Plain" ({ cls := "CliffHoney$Term", name := "of", desc := "([I)I" } : Jvm.MethodName) ({ cls := "CliffHoney$Plain", name := "of", desc := "([I)I" } : Jvm.MethodName)) ∈ lw_all := lw_g (lw_at lw_m5 86 rfl) rfl
theorem in_X8 : ∀ w ∈ wsX80, w ∈ lw_all := lw_in wsX80 [959] (by decide +kernel) (by decide +kernel)

/-! CliffHoney$Two -/
set_option maxRecDepth 100000
def RX9 : String := "CliffHoney$Two"
def TX9 : u_T := fun k => match k with
  | 0 => ("CliffHoney$Two", "sign", "C", true)
  | 1 => ("CliffHoney$Two", "a", "LCliffHoney$Term;", true)
  | _ => ("CliffHoney$Two", "b", "LCliffHoney$Term;", true)
def tyX9 : Nat → FieldType := fun k => match k with
  | 0 => .char
  | 1 => .object "CliffHoney$Term"
  | _ => .object "CliffHoney$Term"
abbrev wsX90 : List Cond := u_ws RX9 TX9 3
theorem nmX9 : ∀ a, a < 3 → ∀ b, b < 3 → a ≠ b → (TX9 a).2.1 ≠ (TX9 b).2.1 := by decide +kernel
theorem tyX9_ok : ∀ k, k < 3 → parseFieldDescriptor (TX9 k).2.2.1 = some (tyX9 k) := by decide +kernel
abbrev cX9_init : ByteArray := prog_21_method_1_code
def yX9_init : MethodName := ⟨RX9, "<init>", "(LCliffHoney$Term;CLCliffHoney$Term;)V"⟩
def dkwX9_init_0 : List UInt8 := [42, 183, 0, 1, 42, 43, 181, 0, 7, 42, 28, 181, 0, 13, 42, 45, 181, 0, 17, 177]
abbrev dktX9_init_0 : List UInt8 := dkwX9_init_0 ++ []
theorem dksX9_init_0 : cX9_init.data.toList.drop 0 = dktX9_init_0 := by decide +kernel
theorem dX9_init_0 : decode cX9_init 0 = .ok (.aload_n 0, 1) := dk_42 (dk_at dksX9_init_0 0 rfl rfl)
theorem dX9_init_1 : decode cX9_init 1 = .ok (.invokespecial 1, 3) := dk_183 0 1 (dk_at dksX9_init_0 1 rfl rfl)
theorem dX9_init_4 : decode cX9_init 4 = .ok (.aload_n 0, 1) := dk_42 (dk_at dksX9_init_0 4 rfl rfl)
theorem dX9_init_5 : decode cX9_init 5 = .ok (.aload_n 1, 1) := dk_43 (dk_at dksX9_init_0 5 rfl rfl)
theorem dX9_init_6 : decode cX9_init 6 = .ok (.putfield 7, 3) := dk_181 0 7 (dk_at dksX9_init_0 6 rfl rfl)
theorem dX9_init_9 : decode cX9_init 9 = .ok (.aload_n 0, 1) := dk_42 (dk_at dksX9_init_0 9 rfl rfl)
theorem dX9_init_10 : decode cX9_init 10 = .ok (.iload_n 2, 1) := dk_28 (dk_at dksX9_init_0 10 rfl rfl)
theorem dX9_init_11 : decode cX9_init 11 = .ok (.putfield 13, 3) := dk_181 0 13 (dk_at dksX9_init_0 11 rfl rfl)
theorem dX9_init_14 : decode cX9_init 14 = .ok (.aload_n 0, 1) := dk_42 (dk_at dksX9_init_0 14 rfl rfl)
theorem dX9_init_15 : decode cX9_init 15 = .ok (.aload_n 3, 1) := dk_45 (dk_at dksX9_init_0 15 rfl rfl)
theorem dX9_init_16 : decode cX9_init 16 = .ok (.putfield 17, 3) := dk_181 0 17 (dk_at dksX9_init_0 16 rfl rfl)
theorem dX9_init_19 : decode cX9_init 19 = .ok (.return_, 1) := dk_177 (dk_at dksX9_init_0 19 rfl rfl)
abbrev cX9_of : ByteArray := prog_21_method_2_code
def yX9_of : MethodName := ⟨RX9, "of", "([I)I"⟩
def dkwX9_of_5 : List UInt8 := [153, 0, 7, 4, 167, 0, 4, 3, 172]
abbrev dktX9_of_5 : List UInt8 := dkwX9_of_5 ++ []
def dkwX9_of_4 : List UInt8 := [167, 0, 4, 3, 172, 28, 153, 0, 11, 29, 153, 0, 7, 4, 167, 0, 4, 3, 172, 28, 154, 0, 7, 29]
abbrev dktX9_of_4 : List UInt8 := dkwX9_of_4 ++ dktX9_of_5
def dkwX9_of_3 : List UInt8 := [167, 0, 4, 3, 172, 28, 29, 160, 0, 7, 4, 167, 0, 4, 3, 172, 28, 29, 164, 0, 7, 4]
abbrev dktX9_of_3 : List UInt8 := dkwX9_of_3 ++ dktX9_of_4
def dkwX9_of_2 : List UInt8 := [28, 29, 96, 172, 28, 29, 100, 172, 28, 29, 104, 172, 28, 29, 108, 172, 28, 29, 162, 0, 7, 4]
abbrev dktX9_of_2 : List UInt8 := dkwX9_of_2 ++ dktX9_of_3
def dkwX9_of_1 : List UInt8 := [170, 0, 0, 0, 0, 177, 0, 0, 0, 38, 0, 0, 0, 62, 0, 0, 0, 163, 0, 0, 0, 177, 0, 0, 0, 177, 0, 0, 0, 177, 0, 0, 0, 122, 0, 0, 0, 114, 0, 0, 0, 177, 0, 0, 0, 118, 0, 0, 0, 177, 0, 0, 0, 126, 0, 0, 0, 177, 0, 0, 0, 177, 0, 0, 0, 177, 0, 0, 0, 177, 0, 0, 0, 177, 0, 0, 0, 177, 0, 0, 0, 177, 0, 0, 0, 177, 0, 0, 0, 177, 0, 0, 0, 177, 0, 0, 0, 177, 0, 0, 0, 177, 0, 0, 0, 130, 0, 0, 0, 141, 0, 0, 0, 152]
abbrev dktX9_of_1 : List UInt8 := dkwX9_of_1 ++ dktX9_of_2
def dkwX9_of_0 : List UInt8 := [42, 180, 0, 7, 43, 182, 0, 20, 61, 42, 180, 0, 17, 43, 182, 0, 20, 62, 42, 180, 0, 13]
abbrev dktX9_of_0 : List UInt8 := dkwX9_of_0 ++ dktX9_of_1
theorem dksX9_of_0 : cX9_of.data.toList.drop 0 = dktX9_of_0 := by decide +kernel
theorem dksX9_of_1 : cX9_of.data.toList.drop 22 = dktX9_of_1 := dk_seg dksX9_of_0 22 rfl rfl
theorem dksX9_of_2 : cX9_of.data.toList.drop 136 = dktX9_of_2 := dk_seg dksX9_of_1 114 rfl rfl
theorem dksX9_of_3 : cX9_of.data.toList.drop 158 = dktX9_of_3 := dk_seg dksX9_of_2 22 rfl rfl
theorem dksX9_of_4 : cX9_of.data.toList.drop 180 = dktX9_of_4 := dk_seg dksX9_of_3 22 rfl rfl
theorem dksX9_of_5 : cX9_of.data.toList.drop 204 = dktX9_of_5 := dk_seg dksX9_of_4 24 rfl rfl
theorem dX9_of_0 : decode cX9_of 0 = .ok (.aload_n 0, 1) := dk_42 (dk_at dksX9_of_0 0 rfl rfl)
theorem dX9_of_1 : decode cX9_of 1 = .ok (.getfield 7, 3) := dk_180 0 7 (dk_at dksX9_of_0 1 rfl rfl)
theorem dX9_of_4 : decode cX9_of 4 = .ok (.aload_n 1, 1) := dk_43 (dk_at dksX9_of_0 4 rfl rfl)
theorem dX9_of_5 : decode cX9_of 5 = .ok (.invokevirtual 20, 3) := dk_182 0 20 (dk_at dksX9_of_0 5 rfl rfl)
theorem dX9_of_8 : decode cX9_of 8 = .ok (.istore_n 2, 1) := dk_61 (dk_at dksX9_of_0 8 rfl rfl)
theorem dX9_of_9 : decode cX9_of 9 = .ok (.aload_n 0, 1) := dk_42 (dk_at dksX9_of_0 9 rfl rfl)
theorem dX9_of_10 : decode cX9_of 10 = .ok (.getfield 17, 3) := dk_180 0 17 (dk_at dksX9_of_0 10 rfl rfl)
theorem dX9_of_13 : decode cX9_of 13 = .ok (.aload_n 1, 1) := dk_43 (dk_at dksX9_of_0 13 rfl rfl)
theorem dX9_of_14 : decode cX9_of 14 = .ok (.invokevirtual 20, 3) := dk_182 0 20 (dk_at dksX9_of_0 14 rfl rfl)
theorem dX9_of_17 : decode cX9_of 17 = .ok (.istore_n 3, 1) := dk_62 (dk_at dksX9_of_0 17 rfl rfl)
theorem dX9_of_18 : decode cX9_of 18 = .ok (.aload_n 0, 1) := dk_42 (dk_at dksX9_of_0 18 rfl rfl)
theorem dX9_of_19 : decode cX9_of 19 = .ok (.getfield 13, 3) := dk_180 0 13 (dk_at dksX9_of_0 19 rfl rfl)
theorem dX9_of_22 : decode cX9_of 22 = .ok (.tableswitch 177 38 62 #[163, 177, 177, 177, 122, 114, 177, 118, 177, 126, 177, 177, 177, 177, 177, 177, 177, 177, 177, 177, 177, 177, 130, 141, 152], 114) := by decide +kernel
theorem dX9_of_136 : decode cX9_of 136 = .ok (.iload_n 2, 1) := dk_28 (dk_at dksX9_of_2 0 rfl rfl)
theorem dX9_of_137 : decode cX9_of 137 = .ok (.iload_n 3, 1) := dk_29 (dk_at dksX9_of_2 1 rfl rfl)
theorem dX9_of_138 : decode cX9_of 138 = .ok (.iadd, 1) := dk_96 (dk_at dksX9_of_2 2 rfl rfl)
theorem dX9_of_139 : decode cX9_of 139 = .ok (.ireturn, 1) := dk_172 (dk_at dksX9_of_2 3 rfl rfl)
theorem dX9_of_140 : decode cX9_of 140 = .ok (.iload_n 2, 1) := dk_28 (dk_at dksX9_of_2 4 rfl rfl)
theorem dX9_of_141 : decode cX9_of 141 = .ok (.iload_n 3, 1) := dk_29 (dk_at dksX9_of_2 5 rfl rfl)
theorem dX9_of_142 : decode cX9_of 142 = .ok (.isub, 1) := dk_100 (dk_at dksX9_of_2 6 rfl rfl)
theorem dX9_of_143 : decode cX9_of 143 = .ok (.ireturn, 1) := dk_172 (dk_at dksX9_of_2 7 rfl rfl)
theorem dX9_of_144 : decode cX9_of 144 = .ok (.iload_n 2, 1) := dk_28 (dk_at dksX9_of_2 8 rfl rfl)
theorem dX9_of_145 : decode cX9_of 145 = .ok (.iload_n 3, 1) := dk_29 (dk_at dksX9_of_2 9 rfl rfl)
theorem dX9_of_146 : decode cX9_of 146 = .ok (.imul, 1) := dk_104 (dk_at dksX9_of_2 10 rfl rfl)
theorem dX9_of_147 : decode cX9_of 147 = .ok (.ireturn, 1) := dk_172 (dk_at dksX9_of_2 11 rfl rfl)
theorem dX9_of_148 : decode cX9_of 148 = .ok (.iload_n 2, 1) := dk_28 (dk_at dksX9_of_2 12 rfl rfl)
theorem dX9_of_149 : decode cX9_of 149 = .ok (.iload_n 3, 1) := dk_29 (dk_at dksX9_of_2 13 rfl rfl)
theorem dX9_of_150 : decode cX9_of 150 = .ok (.idiv, 1) := dk_108 (dk_at dksX9_of_2 14 rfl rfl)
theorem dX9_of_151 : decode cX9_of 151 = .ok (.ireturn, 1) := dk_172 (dk_at dksX9_of_2 15 rfl rfl)
theorem dX9_of_152 : decode cX9_of 152 = .ok (.iload_n 2, 1) := dk_28 (dk_at dksX9_of_2 16 rfl rfl)
theorem dX9_of_153 : decode cX9_of 153 = .ok (.iload_n 3, 1) := dk_29 (dk_at dksX9_of_2 17 rfl rfl)
theorem dX9_of_154 : decode cX9_of 154 = .ok (.if_icmp .ge 7, 3) := dk_162 0 7 (dk_at dksX9_of_2 18 rfl rfl)
theorem dX9_of_157 : decode cX9_of 157 = .ok (.iconst 1, 1) := dk_4 (dk_at dksX9_of_2 21 rfl rfl)
theorem dX9_of_158 : decode cX9_of 158 = .ok (.goto 4, 3) := dk_167 0 4 (dk_at dksX9_of_3 0 rfl rfl)
theorem dX9_of_161 : decode cX9_of 161 = .ok (.iconst 0, 1) := dk_3 (dk_at dksX9_of_3 3 rfl rfl)
theorem dX9_of_162 : decode cX9_of 162 = .ok (.ireturn, 1) := dk_172 (dk_at dksX9_of_3 4 rfl rfl)
theorem dX9_of_163 : decode cX9_of 163 = .ok (.iload_n 2, 1) := dk_28 (dk_at dksX9_of_3 5 rfl rfl)
theorem dX9_of_164 : decode cX9_of 164 = .ok (.iload_n 3, 1) := dk_29 (dk_at dksX9_of_3 6 rfl rfl)
theorem dX9_of_165 : decode cX9_of 165 = .ok (.if_icmp .ne 7, 3) := dk_160 0 7 (dk_at dksX9_of_3 7 rfl rfl)
theorem dX9_of_168 : decode cX9_of 168 = .ok (.iconst 1, 1) := dk_4 (dk_at dksX9_of_3 10 rfl rfl)
theorem dX9_of_169 : decode cX9_of 169 = .ok (.goto 4, 3) := dk_167 0 4 (dk_at dksX9_of_3 11 rfl rfl)
theorem dX9_of_172 : decode cX9_of 172 = .ok (.iconst 0, 1) := dk_3 (dk_at dksX9_of_3 14 rfl rfl)
theorem dX9_of_173 : decode cX9_of 173 = .ok (.ireturn, 1) := dk_172 (dk_at dksX9_of_3 15 rfl rfl)
theorem dX9_of_174 : decode cX9_of 174 = .ok (.iload_n 2, 1) := dk_28 (dk_at dksX9_of_3 16 rfl rfl)
theorem dX9_of_175 : decode cX9_of 175 = .ok (.iload_n 3, 1) := dk_29 (dk_at dksX9_of_3 17 rfl rfl)
theorem dX9_of_176 : decode cX9_of 176 = .ok (.if_icmp .le 7, 3) := dk_164 0 7 (dk_at dksX9_of_3 18 rfl rfl)
theorem dX9_of_179 : decode cX9_of 179 = .ok (.iconst 1, 1) := dk_4 (dk_at dksX9_of_3 21 rfl rfl)
theorem dX9_of_180 : decode cX9_of 180 = .ok (.goto 4, 3) := dk_167 0 4 (dk_at dksX9_of_4 0 rfl rfl)
theorem dX9_of_183 : decode cX9_of 183 = .ok (.iconst 0, 1) := dk_3 (dk_at dksX9_of_4 3 rfl rfl)
theorem dX9_of_184 : decode cX9_of 184 = .ok (.ireturn, 1) := dk_172 (dk_at dksX9_of_4 4 rfl rfl)
theorem dX9_of_185 : decode cX9_of 185 = .ok (.iload_n 2, 1) := dk_28 (dk_at dksX9_of_4 5 rfl rfl)
theorem dX9_of_186 : decode cX9_of 186 = .ok (.ifCond .eq 11, 3) := dk_153 0 11 (dk_at dksX9_of_4 6 rfl rfl)
theorem dX9_of_189 : decode cX9_of 189 = .ok (.iload_n 3, 1) := dk_29 (dk_at dksX9_of_4 9 rfl rfl)
theorem dX9_of_190 : decode cX9_of 190 = .ok (.ifCond .eq 7, 3) := dk_153 0 7 (dk_at dksX9_of_4 10 rfl rfl)
theorem dX9_of_193 : decode cX9_of 193 = .ok (.iconst 1, 1) := dk_4 (dk_at dksX9_of_4 13 rfl rfl)
theorem dX9_of_194 : decode cX9_of 194 = .ok (.goto 4, 3) := dk_167 0 4 (dk_at dksX9_of_4 14 rfl rfl)
theorem dX9_of_197 : decode cX9_of 197 = .ok (.iconst 0, 1) := dk_3 (dk_at dksX9_of_4 17 rfl rfl)
theorem dX9_of_198 : decode cX9_of 198 = .ok (.ireturn, 1) := dk_172 (dk_at dksX9_of_4 18 rfl rfl)
theorem dX9_of_199 : decode cX9_of 199 = .ok (.iload_n 2, 1) := dk_28 (dk_at dksX9_of_4 19 rfl rfl)
theorem dX9_of_200 : decode cX9_of 200 = .ok (.ifCond .ne 7, 3) := dk_154 0 7 (dk_at dksX9_of_4 20 rfl rfl)
theorem dX9_of_203 : decode cX9_of 203 = .ok (.iload_n 3, 1) := dk_29 (dk_at dksX9_of_4 23 rfl rfl)
theorem dX9_of_204 : decode cX9_of 204 = .ok (.ifCond .eq 7, 3) := dk_153 0 7 (dk_at dksX9_of_5 0 rfl rfl)
theorem dX9_of_207 : decode cX9_of 207 = .ok (.iconst 1, 1) := dk_4 (dk_at dksX9_of_5 3 rfl rfl)
theorem dX9_of_208 : decode cX9_of 208 = .ok (.goto 4, 3) := dk_167 0 4 (dk_at dksX9_of_5 4 rfl rfl)
theorem dX9_of_211 : decode cX9_of 211 = .ok (.iconst 0, 1) := dk_3 (dk_at dksX9_of_5 7 rfl rfl)
theorem dX9_of_212 : decode cX9_of 212 = .ok (.ireturn, 1) := dk_172 (dk_at dksX9_of_5 8 rfl rfl)
theorem q120 : (Jvm.Cond.initialized "CliffHoney$Two") ∈ lw_all := lw_g (lw_at lw_m1 23 rfl) rfl
theorem q963 : (Jvm.Cond.instantiable "CliffHoney$Two" (3 : Nat)) ∈ lw_all := lw_g (lw_at lw_m4 146 rfl) rfl
theorem q969 : (Jvm.Cond.instanceMethod ({ cls := "CliffHoney$Two", name := "<init>", desc := "(LCliffHoney$Term;CLCliffHoney$Term;)V" } : Jvm.MethodName)) ∈ lw_all := lw_g (lw_at lw_m4 152 rfl) rfl
theorem q970 : (Jvm.Cond.code ({ cls := "CliffHoney$Two", name := "<init>", desc := "(LCliffHoney$Term;CLCliffHoney$Term;)V" } : Jvm.MethodName) prog_21_method_1_code (4 : Nat) (Option.none : Option Jvm.ClassFile.FieldType)) ∈ lw_all := lw_g (lw_at lw_m4 153 rfl) rfl
theorem q971 : (Jvm.Cond.methodLinkNest "CliffHoney$Two" (1 : Nat) ({ cls := "CliffHoney$Term", name := "<init>", desc := "()V" } : Jvm.MethodName) "CliffHoney") ∈ lw_tbl := lw_at lw_m4 154 rfl
theorem q972 : (Jvm.Cond.fieldLink "CliffHoney$Two" (13 : Nat) "CliffHoney$Two" "sign" "C") ∈ lw_all := lw_g (lw_at lw_m4 155 rfl) rfl
theorem q973 : (Jvm.Cond.fieldLink "CliffHoney$Two" (7 : Nat) "CliffHoney$Two" "a" "LCliffHoney$Term;") ∈ lw_all := lw_g (lw_at lw_m4 156 rfl) rfl
theorem q974 : (Jvm.Cond.fieldLink "CliffHoney$Two" (17 : Nat) "CliffHoney$Two" "b" "LCliffHoney$Term;") ∈ lw_all := lw_g (lw_at lw_m4 157 rfl) rfl
theorem q975 : (Jvm.Cond.laysFinal "CliffHoney$Two" "CliffHoney$Two" "sign" "C") ∈ lw_all := lw_g (lw_at lw_m4 158 rfl) rfl
theorem q976 : (Jvm.Cond.soleField "CliffHoney$Two" "sign") ∈ lw_all := lw_g (lw_at lw_m4 159 rfl) rfl
theorem q977 : (Jvm.Cond.laysFinal "CliffHoney$Two" "CliffHoney$Two" "a" "LCliffHoney$Term;") ∈ lw_all := lw_g (lw_at lw_m4 160 rfl) rfl
theorem q978 : (Jvm.Cond.soleField "CliffHoney$Two" "a") ∈ lw_all := lw_g (lw_at lw_m4 161 rfl) rfl
theorem q979 : (Jvm.Cond.laysFinal "CliffHoney$Two" "CliffHoney$Two" "b" "LCliffHoney$Term;") ∈ lw_all := lw_g (lw_at lw_m4 162 rfl) rfl
theorem q980 : (Jvm.Cond.soleField "CliffHoney$Two" "b") ∈ lw_all := lw_g (lw_at lw_m4 163 rfl) rfl
theorem q981 : (Jvm.Cond.superclass "CliffHoney$Two" "CliffHoney$Term") ∈ lw_all := lw_g (lw_at lw_m4 164 rfl) rfl
theorem q1140 : (Jvm.Cond.instanceMethod ({ cls := "CliffHoney$Two", name := "of", desc := "([I)I" } : Jvm.MethodName)) ∈ lw_all := lw_g (lw_at lw_m5 83 rfl) rfl
theorem q1141 : (Jvm.Cond.code ({ cls := "CliffHoney$Two", name := "of", desc := "([I)I" } : Jvm.MethodName) prog_21_method_2_code (4 : Nat) (Option.some Jvm.ClassFile.FieldType.int)) ∈ lw_all := lw_g (lw_at lw_m5 84 rfl) rfl
theorem q1142 : (Jvm.Cond.methodLink "CliffHoney$Two" (20 : Nat) ({ cls := "CliffHoney$Term", name := "of", desc := "([I)I" } : Jvm.MethodName)) ∈ lw_all := lw_g (lw_at lw_m5 85 rfl) rfl
theorem q1144 : (Jvm.Cond.selects "CliffHoney$Two" ({ cls := "CliffHoney$Term", name := "of", desc := "([I)I" } : Jvm.MethodName) ({ cls := "CliffHoney$Two", name := "of", desc := "([I)I" } : Jvm.MethodName)) ∈ lw_all := lw_g (lw_at lw_m5 87 rfl) rfl
theorem in_X9 : ∀ w ∈ wsX90, w ∈ lw_all := lw_in wsX90 [975, 977, 979] (by decide +kernel) (by decide +kernel)

/-! CliffHoney$Line -/
set_option maxRecDepth 100000
def RX10 : String := "CliffHoney$Line"
abbrev cX10_init : ByteArray := prog_11_method_1_code
def yX10_init : MethodName := ⟨RX10, "<init>", "(LCliffHoney$Term;LCliffHoney$Term;)V"⟩
def dkwX10_init_0 : List UInt8 := [42, 183, 0, 1, 42, 43, 181, 0, 7, 42, 44, 181, 0, 13, 177]
abbrev dktX10_init_0 : List UInt8 := dkwX10_init_0 ++ []
theorem dksX10_init_0 : cX10_init.data.toList.drop 0 = dktX10_init_0 := by decide +kernel
theorem dX10_init_0 : decode cX10_init 0 = .ok (.aload_n 0, 1) := dk_42 (dk_at dksX10_init_0 0 rfl rfl)
theorem dX10_init_1 : decode cX10_init 1 = .ok (.invokespecial 1, 3) := dk_183 0 1 (dk_at dksX10_init_0 1 rfl rfl)
theorem dX10_init_4 : decode cX10_init 4 = .ok (.aload_n 0, 1) := dk_42 (dk_at dksX10_init_0 4 rfl rfl)
theorem dX10_init_5 : decode cX10_init 5 = .ok (.aload_n 1, 1) := dk_43 (dk_at dksX10_init_0 5 rfl rfl)
theorem dX10_init_6 : decode cX10_init 6 = .ok (.putfield 7, 3) := dk_181 0 7 (dk_at dksX10_init_0 6 rfl rfl)
theorem dX10_init_9 : decode cX10_init 9 = .ok (.aload_n 0, 1) := dk_42 (dk_at dksX10_init_0 9 rfl rfl)
theorem dX10_init_10 : decode cX10_init 10 = .ok (.aload_n 2, 1) := dk_44 (dk_at dksX10_init_0 10 rfl rfl)
theorem dX10_init_11 : decode cX10_init 11 = .ok (.putfield 13, 3) := dk_181 0 13 (dk_at dksX10_init_0 11 rfl rfl)
theorem dX10_init_14 : decode cX10_init 14 = .ok (.return_, 1) := dk_177 (dk_at dksX10_init_0 14 rfl rfl)
abbrev cX10_tells : ByteArray := prog_11_method_2_code
def yX10_tells : MethodName := ⟨RX10, "tells", "(LCliffHoney$Custom;)V"⟩
theorem dX10_tells_0 : decode cX10_tells 0 = .ok (.return_, 1) := by decide +kernel
abbrev cX10_asks : ByteArray := prog_11_method_3_code
def yX10_asks : MethodName := ⟨RX10, "asks", "([ILCliffHoney$Custom;)V"⟩
def dkwX10_asks_1 : List UInt8 := [177]
abbrev dktX10_asks_1 : List UInt8 := dkwX10_asks_1 ++ []
def dkwX10_asks_0 : List UInt8 := [42, 180, 0, 13, 198, 0, 14, 42, 180, 0, 13, 43, 182, 0, 16, 153, 0, 9, 42, 43, 44, 182, 0, 22]
abbrev dktX10_asks_0 : List UInt8 := dkwX10_asks_0 ++ dktX10_asks_1
theorem dksX10_asks_0 : cX10_asks.data.toList.drop 0 = dktX10_asks_0 := by decide +kernel
theorem dksX10_asks_1 : cX10_asks.data.toList.drop 24 = dktX10_asks_1 := dk_seg dksX10_asks_0 24 rfl rfl
theorem dX10_asks_0 : decode cX10_asks 0 = .ok (.aload_n 0, 1) := dk_42 (dk_at dksX10_asks_0 0 rfl rfl)
theorem dX10_asks_1 : decode cX10_asks 1 = .ok (.getfield 13, 3) := dk_180 0 13 (dk_at dksX10_asks_0 1 rfl rfl)
theorem dX10_asks_4 : decode cX10_asks 4 = .ok (.ifnull 14, 3) := dk_198 0 14 (dk_at dksX10_asks_0 4 rfl rfl)
theorem dX10_asks_7 : decode cX10_asks 7 = .ok (.aload_n 0, 1) := dk_42 (dk_at dksX10_asks_0 7 rfl rfl)
theorem dX10_asks_8 : decode cX10_asks 8 = .ok (.getfield 13, 3) := dk_180 0 13 (dk_at dksX10_asks_0 8 rfl rfl)
theorem dX10_asks_11 : decode cX10_asks 11 = .ok (.aload_n 1, 1) := dk_43 (dk_at dksX10_asks_0 11 rfl rfl)
theorem dX10_asks_12 : decode cX10_asks 12 = .ok (.invokevirtual 16, 3) := dk_182 0 16 (dk_at dksX10_asks_0 12 rfl rfl)
theorem dX10_asks_15 : decode cX10_asks 15 = .ok (.ifCond .eq 9, 3) := dk_153 0 9 (dk_at dksX10_asks_0 15 rfl rfl)
theorem dX10_asks_18 : decode cX10_asks 18 = .ok (.aload_n 0, 1) := dk_42 (dk_at dksX10_asks_0 18 rfl rfl)
theorem dX10_asks_19 : decode cX10_asks 19 = .ok (.aload_n 1, 1) := dk_43 (dk_at dksX10_asks_0 19 rfl rfl)
theorem dX10_asks_20 : decode cX10_asks 20 = .ok (.aload_n 2, 1) := dk_44 (dk_at dksX10_asks_0 20 rfl rfl)
theorem dX10_asks_21 : decode cX10_asks 21 = .ok (.invokevirtual 22, 3) := dk_182 0 22 (dk_at dksX10_asks_0 21 rfl rfl)
theorem dX10_asks_24 : decode cX10_asks 24 = .ok (.return_, 1) := dk_177 (dk_at dksX10_asks_1 0 rfl rfl)
abbrev cX10_counts : ByteArray := prog_11_method_4_code
def yX10_counts : MethodName := ⟨RX10, "counts", "([ILCliffHoney$Custom;)V"⟩
theorem dX10_counts_0 : decode cX10_counts 0 = .ok (.return_, 1) := by decide +kernel
theorem q121 : (Jvm.Cond.initialized "CliffHoney$Line") ∈ lw_all := lw_g (lw_at lw_m1 24 rfl) rfl
theorem q1014 : (Jvm.Cond.instanceMethod ({ cls := "CliffHoney$Line", name := "<init>", desc := "(LCliffHoney$Term;LCliffHoney$Term;)V" } : Jvm.MethodName)) ∈ lw_all := lw_g (lw_at lw_m4 197 rfl) rfl
theorem q1015 : (Jvm.Cond.code ({ cls := "CliffHoney$Line", name := "<init>", desc := "(LCliffHoney$Term;LCliffHoney$Term;)V" } : Jvm.MethodName) prog_11_method_1_code (3 : Nat) (Option.none : Option Jvm.ClassFile.FieldType)) ∈ lw_all := lw_g (lw_at lw_m4 198 rfl) rfl
theorem q1016 : (Jvm.Cond.methodLink "CliffHoney$Line" (1 : Nat) ({ cls := "java/lang/Object", name := "<init>", desc := "()V" } : Jvm.MethodName)) ∈ lw_all := lw_g (lw_at lw_m4 199 rfl) rfl
theorem q1017 : (Jvm.Cond.fieldLink "CliffHoney$Line" (7 : Nat) "CliffHoney$Line" "amount" "LCliffHoney$Term;") ∈ lw_all := lw_g (lw_at lw_m4 200 rfl) rfl
theorem q1020 : (Jvm.Cond.fieldLink "CliffHoney$Line" (13 : Nat) "CliffHoney$Line" "when" "LCliffHoney$Term;") ∈ lw_all := lw_g (lw_at lw_m4 203 rfl) rfl
theorem q1022 : (Jvm.Cond.soleField "CliffHoney$Line" "amount") ∈ lw_all := lw_g (lw_at lw_m4 205 rfl) rfl
theorem q1024 : (Jvm.Cond.soleField "CliffHoney$Line" "when") ∈ lw_all := lw_g (lw_at lw_m4 207 rfl) rfl
theorem q1077 : (Jvm.Cond.instanceMethod ({ cls := "CliffHoney$Line", name := "tells", desc := "(LCliffHoney$Custom;)V" } : Jvm.MethodName)) ∈ lw_all := lw_g (lw_at lw_m5 20 rfl) rfl
theorem q1078 : (Jvm.Cond.sameMethod "CliffHoney$Line" "CliffHoney$Line" "tells" "(LCliffHoney$Custom;)V") ∈ lw_all := lw_g (lw_at lw_m5 21 rfl) rfl
theorem q1090 : (Jvm.Cond.code ({ cls := "CliffHoney$Line", name := "tells", desc := "(LCliffHoney$Custom;)V" } : Jvm.MethodName) prog_11_method_2_code (2 : Nat) (Option.none : Option Jvm.ClassFile.FieldType)) ∈ lw_all := lw_g (lw_at lw_m5 33 rfl) rfl
theorem q1120 : (Jvm.Cond.instanceMethod ({ cls := "CliffHoney$Line", name := "asks", desc := "([ILCliffHoney$Custom;)V" } : Jvm.MethodName)) ∈ lw_all := lw_g (lw_at lw_m5 63 rfl) rfl
theorem q1121 : (Jvm.Cond.sameMethod "CliffHoney$Line" "CliffHoney$Line" "asks" "([ILCliffHoney$Custom;)V") ∈ lw_all := lw_g (lw_at lw_m5 64 rfl) rfl
theorem q1127 : (Jvm.Cond.code ({ cls := "CliffHoney$Line", name := "asks", desc := "([ILCliffHoney$Custom;)V" } : Jvm.MethodName) prog_11_method_3_code (3 : Nat) (Option.none : Option Jvm.ClassFile.FieldType)) ∈ lw_all := lw_g (lw_at lw_m5 70 rfl) rfl
theorem q1128 : (Jvm.Cond.methodLink "CliffHoney$Line" (16 : Nat) ({ cls := "CliffHoney$Term", name := "of", desc := "([I)I" } : Jvm.MethodName)) ∈ lw_all := lw_g (lw_at lw_m5 71 rfl) rfl
theorem q1145 : (Jvm.Cond.methodLink "CliffHoney$Line" (22 : Nat) ({ cls := "CliffHoney$Line", name := "counts", desc := "([ILCliffHoney$Custom;)V" } : Jvm.MethodName)) ∈ lw_all := lw_g (lw_at lw_m5 88 rfl) rfl
theorem q1146 : (Jvm.Cond.instanceMethod ({ cls := "CliffHoney$Line", name := "counts", desc := "([ILCliffHoney$Custom;)V" } : Jvm.MethodName)) ∈ lw_all := lw_g (lw_at lw_m5 89 rfl) rfl
theorem q1147 : (Jvm.Cond.sameMethod "CliffHoney$Line" "CliffHoney$Line" "counts" "([ILCliffHoney$Custom;)V") ∈ lw_all := lw_g (lw_at lw_m5 90 rfl) rfl
theorem q1160 : (Jvm.Cond.code ({ cls := "CliffHoney$Line", name := "counts", desc := "([ILCliffHoney$Custom;)V" } : Jvm.MethodName) prog_11_method_4_code (3 : Nat) (Option.none : Option Jvm.ClassFile.FieldType)) ∈ lw_all := lw_g (lw_at lw_m5 103 rfl) rfl

/-! CliffHoney$Leave -/
set_option maxRecDepth 100000
def RX11 : String := "CliffHoney$Leave"
def TX11 : u_T := fun k => match k with
  | 0 => ("CliffHoney$Line", "amount", "LCliffHoney$Term;", true)
  | _ => ("CliffHoney$Line", "when", "LCliffHoney$Term;", true)
def tyX11 : Nat → FieldType := fun k => match k with
  | 0 => .object "CliffHoney$Term"
  | _ => .object "CliffHoney$Term"
abbrev wsX110 : List Cond := u_ws RX11 TX11 2
theorem nmX11 : ∀ a, a < 2 → ∀ b, b < 2 → a ≠ b → (TX11 a).2.1 ≠ (TX11 b).2.1 := by decide +kernel
theorem tyX11_ok : ∀ k, k < 2 → parseFieldDescriptor (TX11 k).2.2.1 = some (tyX11 k) := by decide +kernel
abbrev cX11_init : ByteArray := prog_9_method_1_code
def yX11_init : MethodName := ⟨RX11, "<init>", "(LCliffHoney$Term;LCliffHoney$Term;)V"⟩
def dkwX11_init_0 : List UInt8 := [42, 43, 44, 183, 0, 3, 177]
abbrev dktX11_init_0 : List UInt8 := dkwX11_init_0 ++ []
theorem dksX11_init_0 : cX11_init.data.toList.drop 0 = dktX11_init_0 := by decide +kernel
theorem dX11_init_0 : decode cX11_init 0 = .ok (.aload_n 0, 1) := dk_42 (dk_at dksX11_init_0 0 rfl rfl)
theorem dX11_init_1 : decode cX11_init 1 = .ok (.aload_n 1, 1) := dk_43 (dk_at dksX11_init_0 1 rfl rfl)
theorem dX11_init_2 : decode cX11_init 2 = .ok (.aload_n 2, 1) := dk_44 (dk_at dksX11_init_0 2 rfl rfl)
theorem dX11_init_3 : decode cX11_init 3 = .ok (.invokespecial 3, 3) := dk_183 0 3 (dk_at dksX11_init_0 3 rfl rfl)
theorem dX11_init_6 : decode cX11_init 6 = .ok (.return_, 1) := dk_177 (dk_at dksX11_init_0 6 rfl rfl)
abbrev cX11_counts : ByteArray := prog_9_method_2_code
def yX11_counts : MethodName := ⟨RX11, "counts", "([ILCliffHoney$Custom;)V"⟩
def dkwX11_counts_1 : List UInt8 := [177]
abbrev dktX11_counts_1 : List UInt8 := dkwX11_counts_1 ++ []
def dkwX11_counts_0 : List UInt8 := [44, 44, 180, 0, 9, 16, 100, 42, 180, 0, 15, 43, 182, 0, 21, 184, 0, 27, 184, 0, 33, 181, 0, 9]
abbrev dktX11_counts_0 : List UInt8 := dkwX11_counts_0 ++ dktX11_counts_1
theorem dksX11_counts_0 : cX11_counts.data.toList.drop 0 = dktX11_counts_0 := by decide +kernel
theorem dksX11_counts_1 : cX11_counts.data.toList.drop 24 = dktX11_counts_1 := dk_seg dksX11_counts_0 24 rfl rfl
theorem dX11_counts_0 : decode cX11_counts 0 = .ok (.aload_n 2, 1) := dk_44 (dk_at dksX11_counts_0 0 rfl rfl)
theorem dX11_counts_1 : decode cX11_counts 1 = .ok (.aload_n 2, 1) := dk_44 (dk_at dksX11_counts_0 1 rfl rfl)
theorem dX11_counts_2 : decode cX11_counts 2 = .ok (.getfield 9, 3) := dk_180 0 9 (dk_at dksX11_counts_0 2 rfl rfl)
theorem dX11_counts_5 : decode cX11_counts 5 = .ok (.bipush 100, 2) := dk_16 100 (dk_at dksX11_counts_0 5 rfl rfl)
theorem dX11_counts_7 : decode cX11_counts 7 = .ok (.aload_n 0, 1) := dk_42 (dk_at dksX11_counts_0 7 rfl rfl)
theorem dX11_counts_8 : decode cX11_counts 8 = .ok (.getfield 15, 3) := dk_180 0 15 (dk_at dksX11_counts_0 8 rfl rfl)
theorem dX11_counts_11 : decode cX11_counts 11 = .ok (.aload_n 1, 1) := dk_43 (dk_at dksX11_counts_0 11 rfl rfl)
theorem dX11_counts_12 : decode cX11_counts 12 = .ok (.invokevirtual 21, 3) := dk_182 0 21 (dk_at dksX11_counts_0 12 rfl rfl)
theorem dX11_counts_15 : decode cX11_counts 15 = .ok (.invokestatic 27, 3) := dk_184 0 27 (dk_at dksX11_counts_0 15 rfl rfl)
theorem dX11_counts_18 : decode cX11_counts 18 = .ok (.invokestatic 33, 3) := dk_184 0 33 (dk_at dksX11_counts_0 18 rfl rfl)
theorem dX11_counts_21 : decode cX11_counts 21 = .ok (.putfield 9, 3) := dk_181 0 9 (dk_at dksX11_counts_0 21 rfl rfl)
theorem dX11_counts_24 : decode cX11_counts 24 = .ok (.return_, 1) := dk_177 (dk_at dksX11_counts_1 0 rfl rfl)
theorem q122 : (Jvm.Cond.initialized "CliffHoney$Leave") ∈ lw_all := lw_g (lw_at lw_m1 25 rfl) rfl
theorem q286 : (Jvm.Cond.fieldLink "CliffHoney$Leave" (9 : Nat) "CliffHoney$Custom" "leaves" "I") ∈ lw_all := lw_g (lw_at lw_m1 189 rfl) rfl
theorem q983 : (Jvm.Cond.instantiable "CliffHoney$Leave" (2 : Nat)) ∈ lw_all := lw_g (lw_at lw_m4 166 rfl) rfl
theorem q1011 : (Jvm.Cond.instanceMethod ({ cls := "CliffHoney$Leave", name := "<init>", desc := "(LCliffHoney$Term;LCliffHoney$Term;)V" } : Jvm.MethodName)) ∈ lw_all := lw_g (lw_at lw_m4 194 rfl) rfl
theorem q1012 : (Jvm.Cond.code ({ cls := "CliffHoney$Leave", name := "<init>", desc := "(LCliffHoney$Term;LCliffHoney$Term;)V" } : Jvm.MethodName) prog_9_method_1_code (3 : Nat) (Option.none : Option Jvm.ClassFile.FieldType)) ∈ lw_all := lw_g (lw_at lw_m4 195 rfl) rfl
theorem q1013 : (Jvm.Cond.methodLink "CliffHoney$Leave" (3 : Nat) ({ cls := "CliffHoney$Line", name := "<init>", desc := "(LCliffHoney$Term;LCliffHoney$Term;)V" } : Jvm.MethodName)) ∈ lw_all := lw_g (lw_at lw_m4 196 rfl) rfl
theorem q1018 : (Jvm.Cond.fieldLink "CliffHoney$Leave" (15 : Nat) "CliffHoney$Leave" "amount" "LCliffHoney$Term;") ∈ lw_all := lw_g (lw_at lw_m4 201 rfl) rfl
theorem q1019 : (Jvm.Cond.sameField "CliffHoney$Leave" "CliffHoney$Line" "amount" "LCliffHoney$Term;") ∈ lw_all := lw_g (lw_at lw_m4 202 rfl) rfl
theorem q1021 : (Jvm.Cond.laysFinal "CliffHoney$Leave" "CliffHoney$Line" "amount" "LCliffHoney$Term;") ∈ lw_all := lw_g (lw_at lw_m4 204 rfl) rfl
theorem q1023 : (Jvm.Cond.laysFinal "CliffHoney$Leave" "CliffHoney$Line" "when" "LCliffHoney$Term;") ∈ lw_all := lw_g (lw_at lw_m4 206 rfl) rfl
theorem q1025 : (Jvm.Cond.superclass "CliffHoney$Leave" "CliffHoney$Line") ∈ lw_all := lw_g (lw_at lw_m4 208 rfl) rfl
theorem q1083 : (Jvm.Cond.selects "CliffHoney$Leave" ({ cls := "CliffHoney$Line", name := "tells", desc := "(LCliffHoney$Custom;)V" } : Jvm.MethodName) ({ cls := "CliffHoney$Line", name := "tells", desc := "(LCliffHoney$Custom;)V" } : Jvm.MethodName)) ∈ lw_all := lw_g (lw_at lw_m5 26 rfl) rfl
theorem q1124 : (Jvm.Cond.selects "CliffHoney$Leave" ({ cls := "CliffHoney$Line", name := "asks", desc := "([ILCliffHoney$Custom;)V" } : Jvm.MethodName) ({ cls := "CliffHoney$Line", name := "asks", desc := "([ILCliffHoney$Custom;)V" } : Jvm.MethodName)) ∈ lw_all := lw_g (lw_at lw_m5 67 rfl) rfl
theorem q1152 : (Jvm.Cond.selects "CliffHoney$Leave" ({ cls := "CliffHoney$Line", name := "counts", desc := "([ILCliffHoney$Custom;)V" } : Jvm.MethodName) ({ cls := "CliffHoney$Leave", name := "counts", desc := "([ILCliffHoney$Custom;)V" } : Jvm.MethodName)) ∈ lw_all := lw_g (lw_at lw_m5 95 rfl) rfl
theorem q1153 : (Jvm.Cond.instanceMethod ({ cls := "CliffHoney$Leave", name := "counts", desc := "([ILCliffHoney$Custom;)V" } : Jvm.MethodName)) ∈ lw_all := lw_g (lw_at lw_m5 96 rfl) rfl
theorem q1154 : (Jvm.Cond.code ({ cls := "CliffHoney$Leave", name := "counts", desc := "([ILCliffHoney$Custom;)V" } : Jvm.MethodName) prog_9_method_2_code (3 : Nat) (Option.none : Option Jvm.ClassFile.FieldType)) ∈ lw_all := lw_g (lw_at lw_m5 97 rfl) rfl
theorem q1155 : (Jvm.Cond.methodLink "CliffHoney$Leave" (21 : Nat) ({ cls := "CliffHoney$Term", name := "of", desc := "([I)I" } : Jvm.MethodName)) ∈ lw_all := lw_g (lw_at lw_m5 98 rfl) rfl
theorem q1156 : (Jvm.Cond.methodLink "CliffHoney$Leave" (27 : Nat) ({ cls := "java/lang/Math", name := "min", desc := "(II)I" } : Jvm.MethodName)) ∈ lw_all := lw_g (lw_at lw_m5 99 rfl) rfl
theorem q1157 : (Jvm.Cond.methodLink "CliffHoney$Leave" (33 : Nat) ({ cls := "java/lang/Math", name := "max", desc := "(II)I" } : Jvm.MethodName)) ∈ lw_all := lw_g (lw_at lw_m5 100 rfl) rfl
theorem q2217 : (Jvm.Cond.castable "CliffHoney$Leave" "CliffHoney$Line") ∈ lw_tbl := lw_at lw_m9 200 rfl
theorem in_X11 : ∀ w ∈ wsX110, w ∈ lw_all := lw_in wsX110 [1021, 1023] (by decide +kernel) (by decide +kernel)

/-! CliffHoney$Not -/
set_option maxRecDepth 100000
def RX12 : String := "CliffHoney$Not"
def TX12 : u_T := fun k => match k with
  | _ => ("CliffHoney$Not", "of", "LCliffHoney$Term;", true)
def tyX12 : Nat → FieldType := fun k => match k with
  | _ => .object "CliffHoney$Term"
abbrev wsX120 : List Cond := u_ws RX12 TX12 1
theorem nmX12 : ∀ a, a < 1 → ∀ b, b < 1 → a ≠ b → (TX12 a).2.1 ≠ (TX12 b).2.1 := by decide +kernel
theorem tyX12_ok : ∀ k, k < 1 → parseFieldDescriptor (TX12 k).2.2.1 = some (tyX12 k) := by decide +kernel
abbrev cX12_init : ByteArray := prog_14_method_1_code
def yX12_init : MethodName := ⟨RX12, "<init>", "(LCliffHoney$Term;)V"⟩
def dkwX12_init_0 : List UInt8 := [42, 183, 0, 1, 42, 43, 181, 0, 7, 177]
abbrev dktX12_init_0 : List UInt8 := dkwX12_init_0 ++ []
theorem dksX12_init_0 : cX12_init.data.toList.drop 0 = dktX12_init_0 := by decide +kernel
theorem dX12_init_0 : decode cX12_init 0 = .ok (.aload_n 0, 1) := dk_42 (dk_at dksX12_init_0 0 rfl rfl)
theorem dX12_init_1 : decode cX12_init 1 = .ok (.invokespecial 1, 3) := dk_183 0 1 (dk_at dksX12_init_0 1 rfl rfl)
theorem dX12_init_4 : decode cX12_init 4 = .ok (.aload_n 0, 1) := dk_42 (dk_at dksX12_init_0 4 rfl rfl)
theorem dX12_init_5 : decode cX12_init 5 = .ok (.aload_n 1, 1) := dk_43 (dk_at dksX12_init_0 5 rfl rfl)
theorem dX12_init_6 : decode cX12_init 6 = .ok (.putfield 7, 3) := dk_181 0 7 (dk_at dksX12_init_0 6 rfl rfl)
theorem dX12_init_9 : decode cX12_init 9 = .ok (.return_, 1) := dk_177 (dk_at dksX12_init_0 9 rfl rfl)
abbrev cX12_of : ByteArray := prog_14_method_2_code
def yX12_of : MethodName := ⟨RX12, "of", "([I)I"⟩
def dkwX12_of_0 : List UInt8 := [42, 180, 0, 7, 43, 182, 0, 13, 154, 0, 7, 4, 167, 0, 4, 3, 172]
abbrev dktX12_of_0 : List UInt8 := dkwX12_of_0 ++ []
theorem dksX12_of_0 : cX12_of.data.toList.drop 0 = dktX12_of_0 := by decide +kernel
theorem dX12_of_0 : decode cX12_of 0 = .ok (.aload_n 0, 1) := dk_42 (dk_at dksX12_of_0 0 rfl rfl)
theorem dX12_of_1 : decode cX12_of 1 = .ok (.getfield 7, 3) := dk_180 0 7 (dk_at dksX12_of_0 1 rfl rfl)
theorem dX12_of_4 : decode cX12_of 4 = .ok (.aload_n 1, 1) := dk_43 (dk_at dksX12_of_0 4 rfl rfl)
theorem dX12_of_5 : decode cX12_of 5 = .ok (.invokevirtual 13, 3) := dk_182 0 13 (dk_at dksX12_of_0 5 rfl rfl)
theorem dX12_of_8 : decode cX12_of 8 = .ok (.ifCond .ne 7, 3) := dk_154 0 7 (dk_at dksX12_of_0 8 rfl rfl)
theorem dX12_of_11 : decode cX12_of 11 = .ok (.iconst 1, 1) := dk_4 (dk_at dksX12_of_0 11 rfl rfl)
theorem dX12_of_12 : decode cX12_of 12 = .ok (.goto 4, 3) := dk_167 0 4 (dk_at dksX12_of_0 12 rfl rfl)
theorem dX12_of_15 : decode cX12_of 15 = .ok (.iconst 0, 1) := dk_3 (dk_at dksX12_of_0 15 rfl rfl)
theorem dX12_of_16 : decode cX12_of 16 = .ok (.ireturn, 1) := dk_172 (dk_at dksX12_of_0 16 rfl rfl)
theorem q123 : (Jvm.Cond.initialized "CliffHoney$Not") ∈ lw_all := lw_g (lw_at lw_m1 26 rfl) rfl
theorem q1001 : (Jvm.Cond.instantiable "CliffHoney$Not" (1 : Nat)) ∈ lw_all := lw_g (lw_at lw_m4 184 rfl) rfl
theorem q1003 : (Jvm.Cond.instanceMethod ({ cls := "CliffHoney$Not", name := "<init>", desc := "(LCliffHoney$Term;)V" } : Jvm.MethodName)) ∈ lw_all := lw_g (lw_at lw_m4 186 rfl) rfl
theorem q1004 : (Jvm.Cond.code ({ cls := "CliffHoney$Not", name := "<init>", desc := "(LCliffHoney$Term;)V" } : Jvm.MethodName) prog_14_method_1_code (2 : Nat) (Option.none : Option Jvm.ClassFile.FieldType)) ∈ lw_all := lw_g (lw_at lw_m4 187 rfl) rfl
theorem q1005 : (Jvm.Cond.methodLinkNest "CliffHoney$Not" (1 : Nat) ({ cls := "CliffHoney$Term", name := "<init>", desc := "()V" } : Jvm.MethodName) "CliffHoney") ∈ lw_tbl := lw_at lw_m4 188 rfl
theorem q1006 : (Jvm.Cond.fieldLink "CliffHoney$Not" (7 : Nat) "CliffHoney$Not" "of" "LCliffHoney$Term;") ∈ lw_all := lw_g (lw_at lw_m4 189 rfl) rfl
theorem q1007 : (Jvm.Cond.laysFinal "CliffHoney$Not" "CliffHoney$Not" "of" "LCliffHoney$Term;") ∈ lw_all := lw_g (lw_at lw_m4 190 rfl) rfl
theorem q1008 : (Jvm.Cond.soleField "CliffHoney$Not" "of") ∈ lw_all := lw_g (lw_at lw_m4 191 rfl) rfl
theorem q1009 : (Jvm.Cond.superclass "CliffHoney$Not" "CliffHoney$Term") ∈ lw_all := lw_g (lw_at lw_m4 192 rfl) rfl
theorem q1134 : (Jvm.Cond.selects "CliffHoney$Not" ({ cls := "CliffHoney$Term", name := "of", desc := "([I)I" } : Jvm.MethodName) ({ cls := "CliffHoney$Not", name := "of", desc := "([I)I" } : Jvm.MethodName)) ∈ lw_all := lw_g (lw_at lw_m5 77 rfl) rfl
theorem q1135 : (Jvm.Cond.instanceMethod ({ cls := "CliffHoney$Not", name := "of", desc := "([I)I" } : Jvm.MethodName)) ∈ lw_all := lw_g (lw_at lw_m5 78 rfl) rfl
theorem q1136 : (Jvm.Cond.code ({ cls := "CliffHoney$Not", name := "of", desc := "([I)I" } : Jvm.MethodName) prog_14_method_2_code (2 : Nat) (Option.some Jvm.ClassFile.FieldType.int)) ∈ lw_all := lw_g (lw_at lw_m5 79 rfl) rfl
theorem q1137 : (Jvm.Cond.methodLink "CliffHoney$Not" (13 : Nat) ({ cls := "CliffHoney$Term", name := "of", desc := "([I)I" } : Jvm.MethodName)) ∈ lw_all := lw_g (lw_at lw_m5 80 rfl) rfl
theorem in_X12 : ∀ w ∈ wsX120, w ∈ lw_all := lw_in wsX120 [1007] (by decide +kernel) (by decide +kernel)

/-! CliffHoney$Bar -/
set_option maxRecDepth 100000
def RX13 : String := "CliffHoney$Bar"
def TX13 : u_T := fun k => match k with
  | 0 => ("CliffHoney$Line", "amount", "LCliffHoney$Term;", true)
  | _ => ("CliffHoney$Line", "when", "LCliffHoney$Term;", true)
def tyX13 : Nat → FieldType := fun k => match k with
  | 0 => .object "CliffHoney$Term"
  | _ => .object "CliffHoney$Term"
abbrev wsX130 : List Cond := u_ws RX13 TX13 2
theorem nmX13 : ∀ a, a < 2 → ∀ b, b < 2 → a ≠ b → (TX13 a).2.1 ≠ (TX13 b).2.1 := by decide +kernel
theorem tyX13_ok : ∀ k, k < 2 → parseFieldDescriptor (TX13 k).2.2.1 = some (tyX13 k) := by decide +kernel
abbrev cX13_init : ByteArray := prog_3_method_1_code
def yX13_init : MethodName := ⟨RX13, "<init>", "(LCliffHoney$Term;)V"⟩
def dkwX13_init_0 : List UInt8 := [42, 1, 43, 183, 0, 1, 177]
abbrev dktX13_init_0 : List UInt8 := dkwX13_init_0 ++ []
theorem dksX13_init_0 : cX13_init.data.toList.drop 0 = dktX13_init_0 := by decide +kernel
theorem dX13_init_0 : decode cX13_init 0 = .ok (.aload_n 0, 1) := dk_42 (dk_at dksX13_init_0 0 rfl rfl)
theorem dX13_init_1 : decode cX13_init 1 = .ok (.aconst_null, 1) := dk_1 (dk_at dksX13_init_0 1 rfl rfl)
theorem dX13_init_2 : decode cX13_init 2 = .ok (.aload_n 1, 1) := dk_43 (dk_at dksX13_init_0 2 rfl rfl)
theorem dX13_init_3 : decode cX13_init 3 = .ok (.invokespecial 1, 3) := dk_183 0 1 (dk_at dksX13_init_0 3 rfl rfl)
theorem dX13_init_6 : decode cX13_init 6 = .ok (.return_, 1) := dk_177 (dk_at dksX13_init_0 6 rfl rfl)
abbrev cX13_counts : ByteArray := prog_3_method_2_code
def yX13_counts : MethodName := ⟨RX13, "counts", "([ILCliffHoney$Custom;)V"⟩
def dkwX13_counts_0 : List UInt8 := [44, 4, 181, 0, 7, 177]
abbrev dktX13_counts_0 : List UInt8 := dkwX13_counts_0 ++ []
theorem dksX13_counts_0 : cX13_counts.data.toList.drop 0 = dktX13_counts_0 := by decide +kernel
theorem dX13_counts_0 : decode cX13_counts 0 = .ok (.aload_n 2, 1) := dk_44 (dk_at dksX13_counts_0 0 rfl rfl)
theorem dX13_counts_1 : decode cX13_counts 1 = .ok (.iconst 1, 1) := dk_4 (dk_at dksX13_counts_0 1 rfl rfl)
theorem dX13_counts_2 : decode cX13_counts 2 = .ok (.putfield 7, 3) := dk_181 0 7 (dk_at dksX13_counts_0 2 rfl rfl)
theorem dX13_counts_5 : decode cX13_counts 5 = .ok (.return_, 1) := dk_177 (dk_at dksX13_counts_0 5 rfl rfl)
theorem q124 : (Jvm.Cond.initialized "CliffHoney$Bar") ∈ lw_all := lw_g (lw_at lw_m1 27 rfl) rfl
theorem q288 : (Jvm.Cond.fieldLink "CliffHoney$Bar" (7 : Nat) "CliffHoney$Custom" "isBarred" "Z") ∈ lw_all := lw_g (lw_at lw_m1 191 rfl) rfl
theorem q1027 : (Jvm.Cond.instantiable "CliffHoney$Bar" (2 : Nat)) ∈ lw_all := lw_g (lw_at lw_m4 210 rfl) rfl
theorem q1029 : (Jvm.Cond.instanceMethod ({ cls := "CliffHoney$Bar", name := "<init>", desc := "(LCliffHoney$Term;)V" } : Jvm.MethodName)) ∈ lw_all := lw_g (lw_at lw_m4 212 rfl) rfl
theorem q1030 : (Jvm.Cond.code ({ cls := "CliffHoney$Bar", name := "<init>", desc := "(LCliffHoney$Term;)V" } : Jvm.MethodName) prog_3_method_1_code (2 : Nat) (Option.none : Option Jvm.ClassFile.FieldType)) ∈ lw_all := lw_g (lw_at lw_m4 213 rfl) rfl
theorem q1031 : (Jvm.Cond.methodLink "CliffHoney$Bar" (1 : Nat) ({ cls := "CliffHoney$Line", name := "<init>", desc := "(LCliffHoney$Term;LCliffHoney$Term;)V" } : Jvm.MethodName)) ∈ lw_all := lw_g (lw_at lw_m4 214 rfl) rfl
theorem q1032 : (Jvm.Cond.laysFinal "CliffHoney$Bar" "CliffHoney$Line" "amount" "LCliffHoney$Term;") ∈ lw_all := lw_g (lw_at lw_m4 215 rfl) rfl
theorem q1033 : (Jvm.Cond.laysFinal "CliffHoney$Bar" "CliffHoney$Line" "when" "LCliffHoney$Term;") ∈ lw_all := lw_g (lw_at lw_m4 216 rfl) rfl
theorem q1034 : (Jvm.Cond.superclass "CliffHoney$Bar" "CliffHoney$Line") ∈ lw_all := lw_g (lw_at lw_m4 217 rfl) rfl
theorem q1079 : (Jvm.Cond.selects "CliffHoney$Bar" ({ cls := "CliffHoney$Line", name := "tells", desc := "(LCliffHoney$Custom;)V" } : Jvm.MethodName) ({ cls := "CliffHoney$Line", name := "tells", desc := "(LCliffHoney$Custom;)V" } : Jvm.MethodName)) ∈ lw_all := lw_g (lw_at lw_m5 22 rfl) rfl
theorem q1122 : (Jvm.Cond.selects "CliffHoney$Bar" ({ cls := "CliffHoney$Line", name := "asks", desc := "([ILCliffHoney$Custom;)V" } : Jvm.MethodName) ({ cls := "CliffHoney$Line", name := "asks", desc := "([ILCliffHoney$Custom;)V" } : Jvm.MethodName)) ∈ lw_all := lw_g (lw_at lw_m5 65 rfl) rfl
theorem q1148 : (Jvm.Cond.selects "CliffHoney$Bar" ({ cls := "CliffHoney$Line", name := "counts", desc := "([ILCliffHoney$Custom;)V" } : Jvm.MethodName) ({ cls := "CliffHoney$Bar", name := "counts", desc := "([ILCliffHoney$Custom;)V" } : Jvm.MethodName)) ∈ lw_all := lw_g (lw_at lw_m5 91 rfl) rfl
theorem q1149 : (Jvm.Cond.instanceMethod ({ cls := "CliffHoney$Bar", name := "counts", desc := "([ILCliffHoney$Custom;)V" } : Jvm.MethodName)) ∈ lw_all := lw_g (lw_at lw_m5 92 rfl) rfl
theorem q1150 : (Jvm.Cond.code ({ cls := "CliffHoney$Bar", name := "counts", desc := "([ILCliffHoney$Custom;)V" } : Jvm.MethodName) prog_3_method_2_code (3 : Nat) (Option.none : Option Jvm.ClassFile.FieldType)) ∈ lw_all := lw_g (lw_at lw_m5 93 rfl) rfl
theorem q2218 : (Jvm.Cond.castable "CliffHoney$Bar" "CliffHoney$Line") ∈ lw_tbl := lw_at lw_m9 201 rfl
theorem in_X13 : ∀ w ∈ wsX130, w ∈ lw_all := lw_in wsX130 [1032, 1033] (by decide +kernel) (by decide +kernel)

/-! CliffHoney$Share -/
set_option maxRecDepth 100000
def RX14 : String := "CliffHoney$Share"
def TX14 : u_T := fun k => match k with
  | 0 => ("CliffHoney$Line", "amount", "LCliffHoney$Term;", true)
  | 1 => ("CliffHoney$Line", "when", "LCliffHoney$Term;", true)
  | 2 => ("CliffHoney$Share", "who", "I", true)
  | _ => ("CliffHoney$Share", "n", "I", true)
def tyX14 : Nat → FieldType := fun k => match k with
  | 0 => .object "CliffHoney$Term"
  | 1 => .object "CliffHoney$Term"
  | 2 => .int
  | _ => .int
abbrev wsX140 : List Cond := u_ws RX14 TX14 4
theorem nmX14 : ∀ a, a < 4 → ∀ b, b < 4 → a ≠ b → (TX14 a).2.1 ≠ (TX14 b).2.1 := by decide +kernel
theorem tyX14_ok : ∀ k, k < 4 → parseFieldDescriptor (TX14 k).2.2.1 = some (tyX14 k) := by decide +kernel
abbrev cX14_init : ByteArray := prog_19_method_1_code
def yX14_init : MethodName := ⟨RX14, "<init>", "(II)V"⟩
def dkwX14_init_0 : List UInt8 := [42, 1, 1, 183, 0, 1, 42, 27, 181, 0, 7, 42, 28, 181, 0, 13, 177]
abbrev dktX14_init_0 : List UInt8 := dkwX14_init_0 ++ []
theorem dksX14_init_0 : cX14_init.data.toList.drop 0 = dktX14_init_0 := by decide +kernel
theorem dX14_init_0 : decode cX14_init 0 = .ok (.aload_n 0, 1) := dk_42 (dk_at dksX14_init_0 0 rfl rfl)
theorem dX14_init_1 : decode cX14_init 1 = .ok (.aconst_null, 1) := dk_1 (dk_at dksX14_init_0 1 rfl rfl)
theorem dX14_init_2 : decode cX14_init 2 = .ok (.aconst_null, 1) := dk_1 (dk_at dksX14_init_0 2 rfl rfl)
theorem dX14_init_3 : decode cX14_init 3 = .ok (.invokespecial 1, 3) := dk_183 0 1 (dk_at dksX14_init_0 3 rfl rfl)
theorem dX14_init_6 : decode cX14_init 6 = .ok (.aload_n 0, 1) := dk_42 (dk_at dksX14_init_0 6 rfl rfl)
theorem dX14_init_7 : decode cX14_init 7 = .ok (.iload_n 1, 1) := dk_27 (dk_at dksX14_init_0 7 rfl rfl)
theorem dX14_init_8 : decode cX14_init 8 = .ok (.putfield 7, 3) := dk_181 0 7 (dk_at dksX14_init_0 8 rfl rfl)
theorem dX14_init_11 : decode cX14_init 11 = .ok (.aload_n 0, 1) := dk_42 (dk_at dksX14_init_0 11 rfl rfl)
theorem dX14_init_12 : decode cX14_init 12 = .ok (.iload_n 2, 1) := dk_28 (dk_at dksX14_init_0 12 rfl rfl)
theorem dX14_init_13 : decode cX14_init 13 = .ok (.putfield 13, 3) := dk_181 0 13 (dk_at dksX14_init_0 13 rfl rfl)
theorem dX14_init_16 : decode cX14_init 16 = .ok (.return_, 1) := dk_177 (dk_at dksX14_init_0 16 rfl rfl)
abbrev cX14_tells : ByteArray := prog_19_method_2_code
def yX14_tells : MethodName := ⟨RX14, "tells", "(LCliffHoney$Custom;)V"⟩
def dkwX14_tells_0 : List UInt8 := [43, 180, 0, 16, 42, 180, 0, 7, 42, 180, 0, 13, 79, 177]
abbrev dktX14_tells_0 : List UInt8 := dkwX14_tells_0 ++ []
theorem dksX14_tells_0 : cX14_tells.data.toList.drop 0 = dktX14_tells_0 := by decide +kernel
theorem dX14_tells_0 : decode cX14_tells 0 = .ok (.aload_n 1, 1) := dk_43 (dk_at dksX14_tells_0 0 rfl rfl)
theorem dX14_tells_1 : decode cX14_tells 1 = .ok (.getfield 16, 3) := dk_180 0 16 (dk_at dksX14_tells_0 1 rfl rfl)
theorem dX14_tells_4 : decode cX14_tells 4 = .ok (.aload_n 0, 1) := dk_42 (dk_at dksX14_tells_0 4 rfl rfl)
theorem dX14_tells_5 : decode cX14_tells 5 = .ok (.getfield 7, 3) := dk_180 0 7 (dk_at dksX14_tells_0 5 rfl rfl)
theorem dX14_tells_8 : decode cX14_tells 8 = .ok (.aload_n 0, 1) := dk_42 (dk_at dksX14_tells_0 8 rfl rfl)
theorem dX14_tells_9 : decode cX14_tells 9 = .ok (.getfield 13, 3) := dk_180 0 13 (dk_at dksX14_tells_0 9 rfl rfl)
theorem dX14_tells_12 : decode cX14_tells 12 = .ok (.iastore, 1) := dk_79 (dk_at dksX14_tells_0 12 rfl rfl)
theorem dX14_tells_13 : decode cX14_tells 13 = .ok (.return_, 1) := dk_177 (dk_at dksX14_tells_0 13 rfl rfl)
theorem q125 : (Jvm.Cond.initialized "CliffHoney$Share") ∈ lw_all := lw_g (lw_at lw_m1 28 rfl) rfl
theorem q278 : (Jvm.Cond.fieldLink "CliffHoney$Share" (16 : Nat) "CliffHoney$Custom" "shares" "[I") ∈ lw_all := lw_g (lw_at lw_m1 181 rfl) rfl
theorem q1036 : (Jvm.Cond.instantiable "CliffHoney$Share" (4 : Nat)) ∈ lw_all := lw_g (lw_at lw_m4 219 rfl) rfl
theorem q1038 : (Jvm.Cond.instanceMethod ({ cls := "CliffHoney$Share", name := "<init>", desc := "(II)V" } : Jvm.MethodName)) ∈ lw_all := lw_g (lw_at lw_m4 221 rfl) rfl
theorem q1039 : (Jvm.Cond.code ({ cls := "CliffHoney$Share", name := "<init>", desc := "(II)V" } : Jvm.MethodName) prog_19_method_1_code (3 : Nat) (Option.none : Option Jvm.ClassFile.FieldType)) ∈ lw_all := lw_g (lw_at lw_m4 222 rfl) rfl
theorem q1040 : (Jvm.Cond.methodLink "CliffHoney$Share" (1 : Nat) ({ cls := "CliffHoney$Line", name := "<init>", desc := "(LCliffHoney$Term;LCliffHoney$Term;)V" } : Jvm.MethodName)) ∈ lw_all := lw_g (lw_at lw_m4 223 rfl) rfl
theorem q1041 : (Jvm.Cond.fieldLink "CliffHoney$Share" (7 : Nat) "CliffHoney$Share" "who" "I") ∈ lw_all := lw_g (lw_at lw_m4 224 rfl) rfl
theorem q1042 : (Jvm.Cond.fieldLink "CliffHoney$Share" (13 : Nat) "CliffHoney$Share" "n" "I") ∈ lw_all := lw_g (lw_at lw_m4 225 rfl) rfl
theorem q1047 : (Jvm.Cond.laysFinal "CliffHoney$Share" "CliffHoney$Share" "who" "I") ∈ lw_all := lw_g (lw_at lw_m4 230 rfl) rfl
theorem q1048 : (Jvm.Cond.soleField "CliffHoney$Share" "who") ∈ lw_all := lw_g (lw_at lw_m4 231 rfl) rfl
theorem q1049 : (Jvm.Cond.laysFinal "CliffHoney$Share" "CliffHoney$Share" "n" "I") ∈ lw_all := lw_g (lw_at lw_m4 232 rfl) rfl
theorem q1050 : (Jvm.Cond.soleField "CliffHoney$Share" "n") ∈ lw_all := lw_g (lw_at lw_m4 233 rfl) rfl
theorem q1051 : (Jvm.Cond.laysFinal "CliffHoney$Share" "CliffHoney$Line" "amount" "LCliffHoney$Term;") ∈ lw_all := lw_g (lw_at lw_m4 234 rfl) rfl
theorem q1052 : (Jvm.Cond.laysFinal "CliffHoney$Share" "CliffHoney$Line" "when" "LCliffHoney$Term;") ∈ lw_all := lw_g (lw_at lw_m4 235 rfl) rfl
theorem q1053 : (Jvm.Cond.superclass "CliffHoney$Share" "CliffHoney$Line") ∈ lw_all := lw_g (lw_at lw_m4 236 rfl) rfl
theorem q1087 : (Jvm.Cond.selects "CliffHoney$Share" ({ cls := "CliffHoney$Line", name := "tells", desc := "(LCliffHoney$Custom;)V" } : Jvm.MethodName) ({ cls := "CliffHoney$Share", name := "tells", desc := "(LCliffHoney$Custom;)V" } : Jvm.MethodName)) ∈ lw_all := lw_g (lw_at lw_m5 30 rfl) rfl
theorem q1088 : (Jvm.Cond.instanceMethod ({ cls := "CliffHoney$Share", name := "tells", desc := "(LCliffHoney$Custom;)V" } : Jvm.MethodName)) ∈ lw_all := lw_g (lw_at lw_m5 31 rfl) rfl
theorem q1089 : (Jvm.Cond.code ({ cls := "CliffHoney$Share", name := "tells", desc := "(LCliffHoney$Custom;)V" } : Jvm.MethodName) prog_19_method_2_code (2 : Nat) (Option.none : Option Jvm.ClassFile.FieldType)) ∈ lw_all := lw_g (lw_at lw_m5 32 rfl) rfl
theorem q1126 : (Jvm.Cond.selects "CliffHoney$Share" ({ cls := "CliffHoney$Line", name := "asks", desc := "([ILCliffHoney$Custom;)V" } : Jvm.MethodName) ({ cls := "CliffHoney$Line", name := "asks", desc := "([ILCliffHoney$Custom;)V" } : Jvm.MethodName)) ∈ lw_all := lw_g (lw_at lw_m5 69 rfl) rfl
theorem q1159 : (Jvm.Cond.selects "CliffHoney$Share" ({ cls := "CliffHoney$Line", name := "counts", desc := "([ILCliffHoney$Custom;)V" } : Jvm.MethodName) ({ cls := "CliffHoney$Line", name := "counts", desc := "([ILCliffHoney$Custom;)V" } : Jvm.MethodName)) ∈ lw_all := lw_g (lw_at lw_m5 102 rfl) rfl
theorem q2219 : (Jvm.Cond.castable "CliffHoney$Share" "CliffHoney$Line") ∈ lw_tbl := lw_at lw_m9 202 rfl
theorem in_X14 : ∀ w ∈ wsX140, w ∈ lw_all := lw_in wsX140 [1051, 1052, 1047, 1049] (by decide +kernel) (by decide +kernel)

/-! CliffHoney$Learn -/
set_option maxRecDepth 100000
def RX15 : String := "CliffHoney$Learn"
def TX15 : u_T := fun k => match k with
  | 0 => ("CliffHoney$Line", "amount", "LCliffHoney$Term;", true)
  | 1 => ("CliffHoney$Line", "when", "LCliffHoney$Term;", true)
  | 2 => ("CliffHoney$Share", "who", "I", true)
  | _ => ("CliffHoney$Share", "n", "I", true)
def tyX15 : Nat → FieldType := fun k => match k with
  | 0 => .object "CliffHoney$Term"
  | 1 => .object "CliffHoney$Term"
  | 2 => .int
  | _ => .int
abbrev wsX150 : List Cond := u_ws RX15 TX15 4
theorem nmX15 : ∀ a, a < 4 → ∀ b, b < 4 → a ≠ b → (TX15 a).2.1 ≠ (TX15 b).2.1 := by decide +kernel
theorem tyX15_ok : ∀ k, k < 4 → parseFieldDescriptor (TX15 k).2.2.1 = some (tyX15 k) := by decide +kernel
abbrev cX15_init : ByteArray := prog_8_method_1_code
def yX15_init : MethodName := ⟨RX15, "<init>", "(I)V"⟩
def dkwX15_init_0 : List UInt8 := [42, 2, 27, 183, 0, 3, 177]
abbrev dktX15_init_0 : List UInt8 := dkwX15_init_0 ++ []
theorem dksX15_init_0 : cX15_init.data.toList.drop 0 = dktX15_init_0 := by decide +kernel
theorem dX15_init_0 : decode cX15_init 0 = .ok (.aload_n 0, 1) := dk_42 (dk_at dksX15_init_0 0 rfl rfl)
theorem dX15_init_1 : decode cX15_init 1 = .ok (.iconst (-1), 1) := dk_2 (dk_at dksX15_init_0 1 rfl rfl)
theorem dX15_init_2 : decode cX15_init 2 = .ok (.iload_n 1, 1) := dk_27 (dk_at dksX15_init_0 2 rfl rfl)
theorem dX15_init_3 : decode cX15_init 3 = .ok (.invokespecial 3, 3) := dk_183 0 3 (dk_at dksX15_init_0 3 rfl rfl)
theorem dX15_init_6 : decode cX15_init 6 = .ok (.return_, 1) := dk_177 (dk_at dksX15_init_0 6 rfl rfl)
abbrev cX15_tells : ByteArray := prog_8_method_2_code
def yX15_tells : MethodName := ⟨RX15, "tells", "(LCliffHoney$Custom;)V"⟩
def dkwX15_tells_0 : List UInt8 := [43, 42, 180, 0, 9, 181, 0, 15, 177]
abbrev dktX15_tells_0 : List UInt8 := dkwX15_tells_0 ++ []
theorem dksX15_tells_0 : cX15_tells.data.toList.drop 0 = dktX15_tells_0 := by decide +kernel
theorem dX15_tells_0 : decode cX15_tells 0 = .ok (.aload_n 1, 1) := dk_43 (dk_at dksX15_tells_0 0 rfl rfl)
theorem dX15_tells_1 : decode cX15_tells 1 = .ok (.aload_n 0, 1) := dk_42 (dk_at dksX15_tells_0 1 rfl rfl)
theorem dX15_tells_2 : decode cX15_tells 2 = .ok (.getfield 9, 3) := dk_180 0 9 (dk_at dksX15_tells_0 2 rfl rfl)
theorem dX15_tells_5 : decode cX15_tells 5 = .ok (.putfield 15, 3) := dk_181 0 15 (dk_at dksX15_tells_0 5 rfl rfl)
theorem dX15_tells_8 : decode cX15_tells 8 = .ok (.return_, 1) := dk_177 (dk_at dksX15_tells_0 8 rfl rfl)
theorem q126 : (Jvm.Cond.initialized "CliffHoney$Learn") ∈ lw_all := lw_g (lw_at lw_m1 29 rfl) rfl
theorem q281 : (Jvm.Cond.fieldLink "CliffHoney$Learn" (15 : Nat) "CliffHoney$Custom" "learn" "I") ∈ lw_all := lw_g (lw_at lw_m1 184 rfl) rfl
theorem q1043 : (Jvm.Cond.fieldLink "CliffHoney$Learn" (9 : Nat) "CliffHoney$Learn" "n" "I") ∈ lw_all := lw_g (lw_at lw_m4 226 rfl) rfl
theorem q1044 : (Jvm.Cond.sameField "CliffHoney$Learn" "CliffHoney$Share" "n" "I") ∈ lw_all := lw_g (lw_at lw_m4 227 rfl) rfl
theorem q1055 : (Jvm.Cond.instantiable "CliffHoney$Learn" (4 : Nat)) ∈ lw_all := lw_g (lw_at lw_m4 238 rfl) rfl
theorem q1057 : (Jvm.Cond.instanceMethod ({ cls := "CliffHoney$Learn", name := "<init>", desc := "(I)V" } : Jvm.MethodName)) ∈ lw_all := lw_g (lw_at lw_m5 0 rfl) rfl
theorem q1058 : (Jvm.Cond.code ({ cls := "CliffHoney$Learn", name := "<init>", desc := "(I)V" } : Jvm.MethodName) prog_8_method_1_code (2 : Nat) (Option.none : Option Jvm.ClassFile.FieldType)) ∈ lw_all := lw_g (lw_at lw_m5 1 rfl) rfl
theorem q1059 : (Jvm.Cond.methodLink "CliffHoney$Learn" (3 : Nat) ({ cls := "CliffHoney$Share", name := "<init>", desc := "(II)V" } : Jvm.MethodName)) ∈ lw_all := lw_g (lw_at lw_m5 2 rfl) rfl
theorem q1060 : (Jvm.Cond.laysFinal "CliffHoney$Learn" "CliffHoney$Share" "who" "I") ∈ lw_all := lw_g (lw_at lw_m5 3 rfl) rfl
theorem q1061 : (Jvm.Cond.laysFinal "CliffHoney$Learn" "CliffHoney$Share" "n" "I") ∈ lw_all := lw_g (lw_at lw_m5 4 rfl) rfl
theorem q1062 : (Jvm.Cond.laysFinal "CliffHoney$Learn" "CliffHoney$Line" "amount" "LCliffHoney$Term;") ∈ lw_all := lw_g (lw_at lw_m5 5 rfl) rfl
theorem q1063 : (Jvm.Cond.laysFinal "CliffHoney$Learn" "CliffHoney$Line" "when" "LCliffHoney$Term;") ∈ lw_all := lw_g (lw_at lw_m5 6 rfl) rfl
theorem q1064 : (Jvm.Cond.superclass "CliffHoney$Learn" "CliffHoney$Share") ∈ lw_all := lw_g (lw_at lw_m5 7 rfl) rfl
theorem q1080 : (Jvm.Cond.selects "CliffHoney$Learn" ({ cls := "CliffHoney$Line", name := "tells", desc := "(LCliffHoney$Custom;)V" } : Jvm.MethodName) ({ cls := "CliffHoney$Learn", name := "tells", desc := "(LCliffHoney$Custom;)V" } : Jvm.MethodName)) ∈ lw_all := lw_g (lw_at lw_m5 23 rfl) rfl
theorem q1081 : (Jvm.Cond.instanceMethod ({ cls := "CliffHoney$Learn", name := "tells", desc := "(LCliffHoney$Custom;)V" } : Jvm.MethodName)) ∈ lw_all := lw_g (lw_at lw_m5 24 rfl) rfl
theorem q1082 : (Jvm.Cond.code ({ cls := "CliffHoney$Learn", name := "tells", desc := "(LCliffHoney$Custom;)V" } : Jvm.MethodName) prog_8_method_2_code (2 : Nat) (Option.none : Option Jvm.ClassFile.FieldType)) ∈ lw_all := lw_g (lw_at lw_m5 25 rfl) rfl
theorem q1123 : (Jvm.Cond.selects "CliffHoney$Learn" ({ cls := "CliffHoney$Line", name := "asks", desc := "([ILCliffHoney$Custom;)V" } : Jvm.MethodName) ({ cls := "CliffHoney$Line", name := "asks", desc := "([ILCliffHoney$Custom;)V" } : Jvm.MethodName)) ∈ lw_all := lw_g (lw_at lw_m5 66 rfl) rfl
theorem q1151 : (Jvm.Cond.selects "CliffHoney$Learn" ({ cls := "CliffHoney$Line", name := "counts", desc := "([ILCliffHoney$Custom;)V" } : Jvm.MethodName) ({ cls := "CliffHoney$Line", name := "counts", desc := "([ILCliffHoney$Custom;)V" } : Jvm.MethodName)) ∈ lw_all := lw_g (lw_at lw_m5 94 rfl) rfl
theorem q2220 : (Jvm.Cond.castable "CliffHoney$Learn" "CliffHoney$Line") ∈ lw_tbl := lw_at lw_m9 203 rfl
theorem in_X15 : ∀ w ∈ wsX150, w ∈ lw_all := lw_in wsX150 [1062, 1063, 1060, 1061] (by decide +kernel) (by decide +kernel)

/-! CliffHoney$Old -/
set_option maxRecDepth 100000
def RX16 : String := "CliffHoney$Old"
def TX16 : u_T := fun k => match k with
  | 0 => ("CliffHoney$Line", "amount", "LCliffHoney$Term;", true)
  | 1 => ("CliffHoney$Line", "when", "LCliffHoney$Term;", true)
  | 2 => ("CliffHoney$Share", "who", "I", true)
  | _ => ("CliffHoney$Share", "n", "I", true)
def tyX16 : Nat → FieldType := fun k => match k with
  | 0 => .object "CliffHoney$Term"
  | 1 => .object "CliffHoney$Term"
  | 2 => .int
  | _ => .int
abbrev wsX160 : List Cond := u_ws RX16 TX16 4
theorem nmX16 : ∀ a, a < 4 → ∀ b, b < 4 → a ≠ b → (TX16 a).2.1 ≠ (TX16 b).2.1 := by decide +kernel
theorem tyX16_ok : ∀ k, k < 4 → parseFieldDescriptor (TX16 k).2.2.1 = some (tyX16 k) := by decide +kernel
abbrev cX16_init : ByteArray := prog_15_method_1_code
def yX16_init : MethodName := ⟨RX16, "<init>", "(I)V"⟩
def dkwX16_init_0 : List UInt8 := [42, 2, 27, 183, 0, 3, 177]
abbrev dktX16_init_0 : List UInt8 := dkwX16_init_0 ++ []
theorem dksX16_init_0 : cX16_init.data.toList.drop 0 = dktX16_init_0 := by decide +kernel
theorem dX16_init_0 : decode cX16_init 0 = .ok (.aload_n 0, 1) := dk_42 (dk_at dksX16_init_0 0 rfl rfl)
theorem dX16_init_1 : decode cX16_init 1 = .ok (.iconst (-1), 1) := dk_2 (dk_at dksX16_init_0 1 rfl rfl)
theorem dX16_init_2 : decode cX16_init 2 = .ok (.iload_n 1, 1) := dk_27 (dk_at dksX16_init_0 2 rfl rfl)
theorem dX16_init_3 : decode cX16_init 3 = .ok (.invokespecial 3, 3) := dk_183 0 3 (dk_at dksX16_init_0 3 rfl rfl)
theorem dX16_init_6 : decode cX16_init 6 = .ok (.return_, 1) := dk_177 (dk_at dksX16_init_0 6 rfl rfl)
abbrev cX16_tells : ByteArray := prog_15_method_2_code
def yX16_tells : MethodName := ⟨RX16, "tells", "(LCliffHoney$Custom;)V"⟩
def dkwX16_tells_0 : List UInt8 := [43, 42, 180, 0, 9, 181, 0, 15, 177]
abbrev dktX16_tells_0 : List UInt8 := dkwX16_tells_0 ++ []
theorem dksX16_tells_0 : cX16_tells.data.toList.drop 0 = dktX16_tells_0 := by decide +kernel
theorem dX16_tells_0 : decode cX16_tells 0 = .ok (.aload_n 1, 1) := dk_43 (dk_at dksX16_tells_0 0 rfl rfl)
theorem dX16_tells_1 : decode cX16_tells 1 = .ok (.aload_n 0, 1) := dk_42 (dk_at dksX16_tells_0 1 rfl rfl)
theorem dX16_tells_2 : decode cX16_tells 2 = .ok (.getfield 9, 3) := dk_180 0 9 (dk_at dksX16_tells_0 2 rfl rfl)
theorem dX16_tells_5 : decode cX16_tells 5 = .ok (.putfield 15, 3) := dk_181 0 15 (dk_at dksX16_tells_0 5 rfl rfl)
theorem dX16_tells_8 : decode cX16_tells 8 = .ok (.return_, 1) := dk_177 (dk_at dksX16_tells_0 8 rfl rfl)
theorem q127 : (Jvm.Cond.initialized "CliffHoney$Old") ∈ lw_all := lw_g (lw_at lw_m1 30 rfl) rfl
theorem q284 : (Jvm.Cond.fieldLink "CliffHoney$Old" (15 : Nat) "CliffHoney$Custom" "old" "I") ∈ lw_all := lw_g (lw_at lw_m1 187 rfl) rfl
theorem q1045 : (Jvm.Cond.fieldLink "CliffHoney$Old" (9 : Nat) "CliffHoney$Old" "n" "I") ∈ lw_all := lw_g (lw_at lw_m4 228 rfl) rfl
theorem q1046 : (Jvm.Cond.sameField "CliffHoney$Old" "CliffHoney$Share" "n" "I") ∈ lw_all := lw_g (lw_at lw_m4 229 rfl) rfl
theorem q1066 : (Jvm.Cond.instantiable "CliffHoney$Old" (4 : Nat)) ∈ lw_all := lw_g (lw_at lw_m5 9 rfl) rfl
theorem q1068 : (Jvm.Cond.instanceMethod ({ cls := "CliffHoney$Old", name := "<init>", desc := "(I)V" } : Jvm.MethodName)) ∈ lw_all := lw_g (lw_at lw_m5 11 rfl) rfl
theorem q1069 : (Jvm.Cond.code ({ cls := "CliffHoney$Old", name := "<init>", desc := "(I)V" } : Jvm.MethodName) prog_15_method_1_code (2 : Nat) (Option.none : Option Jvm.ClassFile.FieldType)) ∈ lw_all := lw_g (lw_at lw_m5 12 rfl) rfl
theorem q1070 : (Jvm.Cond.methodLink "CliffHoney$Old" (3 : Nat) ({ cls := "CliffHoney$Share", name := "<init>", desc := "(II)V" } : Jvm.MethodName)) ∈ lw_all := lw_g (lw_at lw_m5 13 rfl) rfl
theorem q1071 : (Jvm.Cond.laysFinal "CliffHoney$Old" "CliffHoney$Share" "who" "I") ∈ lw_all := lw_g (lw_at lw_m5 14 rfl) rfl
theorem q1072 : (Jvm.Cond.laysFinal "CliffHoney$Old" "CliffHoney$Share" "n" "I") ∈ lw_all := lw_g (lw_at lw_m5 15 rfl) rfl
theorem q1073 : (Jvm.Cond.laysFinal "CliffHoney$Old" "CliffHoney$Line" "amount" "LCliffHoney$Term;") ∈ lw_all := lw_g (lw_at lw_m5 16 rfl) rfl
theorem q1074 : (Jvm.Cond.laysFinal "CliffHoney$Old" "CliffHoney$Line" "when" "LCliffHoney$Term;") ∈ lw_all := lw_g (lw_at lw_m5 17 rfl) rfl
theorem q1075 : (Jvm.Cond.superclass "CliffHoney$Old" "CliffHoney$Share") ∈ lw_all := lw_g (lw_at lw_m5 18 rfl) rfl
theorem q1084 : (Jvm.Cond.selects "CliffHoney$Old" ({ cls := "CliffHoney$Line", name := "tells", desc := "(LCliffHoney$Custom;)V" } : Jvm.MethodName) ({ cls := "CliffHoney$Old", name := "tells", desc := "(LCliffHoney$Custom;)V" } : Jvm.MethodName)) ∈ lw_all := lw_g (lw_at lw_m5 27 rfl) rfl
theorem q1085 : (Jvm.Cond.instanceMethod ({ cls := "CliffHoney$Old", name := "tells", desc := "(LCliffHoney$Custom;)V" } : Jvm.MethodName)) ∈ lw_all := lw_g (lw_at lw_m5 28 rfl) rfl
theorem q1086 : (Jvm.Cond.code ({ cls := "CliffHoney$Old", name := "tells", desc := "(LCliffHoney$Custom;)V" } : Jvm.MethodName) prog_15_method_2_code (2 : Nat) (Option.none : Option Jvm.ClassFile.FieldType)) ∈ lw_all := lw_g (lw_at lw_m5 29 rfl) rfl
theorem q1125 : (Jvm.Cond.selects "CliffHoney$Old" ({ cls := "CliffHoney$Line", name := "asks", desc := "([ILCliffHoney$Custom;)V" } : Jvm.MethodName) ({ cls := "CliffHoney$Line", name := "asks", desc := "([ILCliffHoney$Custom;)V" } : Jvm.MethodName)) ∈ lw_all := lw_g (lw_at lw_m5 68 rfl) rfl
theorem q1158 : (Jvm.Cond.selects "CliffHoney$Old" ({ cls := "CliffHoney$Line", name := "counts", desc := "([ILCliffHoney$Custom;)V" } : Jvm.MethodName) ({ cls := "CliffHoney$Line", name := "counts", desc := "([ILCliffHoney$Custom;)V" } : Jvm.MethodName)) ∈ lw_all := lw_g (lw_at lw_m5 101 rfl) rfl
theorem q2221 : (Jvm.Cond.castable "CliffHoney$Old" "CliffHoney$Line") ∈ lw_tbl := lw_at lw_m9 204 rfl
theorem in_X16 : ∀ w ∈ wsX160, w ∈ lw_all := lw_in wsX160 [1073, 1074, 1071, 1072] (by decide +kernel) (by decide +kernel)

/-! CliffHoney$Person -/
set_option maxRecDepth 100000
def RX17 : String := "CliffHoney$Person"
def TX17 : u_T := fun k => match k with
  | 0 => ("CliffHoney$Person", "weight", "I", true)
  | 1 => ("CliffHoney$Person", "heir", "I", false)
  | 2 => ("CliffHoney$Person", "learned", "I", false)
  | 3 => ("CliffHoney$Person", "money", "I", false)
  | _ => ("CliffHoney$Person", "isAlive", "Z", false)
def tyX17 : Nat → FieldType := fun k => match k with
  | 0 => .int
  | 1 => .int
  | 2 => .int
  | 3 => .int
  | _ => .boolean
abbrev wsX170 : List Cond := u_ws RX17 TX17 5
theorem nmX17 : ∀ a, a < 5 → ∀ b, b < 5 → a ≠ b → (TX17 a).2.1 ≠ (TX17 b).2.1 := by decide +kernel
theorem tyX17_ok : ∀ k, k < 5 → parseFieldDescriptor (TX17 k).2.2.1 = some (tyX17 k) := by decide +kernel
abbrev cX17_init : ByteArray := prog_16_method_1_code
def yX17_init : MethodName := ⟨RX17, "<init>", "(I)V"⟩
def dkwX17_init_0 : List UInt8 := [42, 183, 0, 3, 42, 2, 181, 0, 9, 42, 4, 181, 0, 15, 42, 27, 181, 0, 19, 177]
abbrev dktX17_init_0 : List UInt8 := dkwX17_init_0 ++ []
theorem dksX17_init_0 : cX17_init.data.toList.drop 0 = dktX17_init_0 := by decide +kernel
theorem dX17_init_0 : decode cX17_init 0 = .ok (.aload_n 0, 1) := dk_42 (dk_at dksX17_init_0 0 rfl rfl)
theorem dX17_init_1 : decode cX17_init 1 = .ok (.invokespecial 3, 3) := dk_183 0 3 (dk_at dksX17_init_0 1 rfl rfl)
theorem dX17_init_4 : decode cX17_init 4 = .ok (.aload_n 0, 1) := dk_42 (dk_at dksX17_init_0 4 rfl rfl)
theorem dX17_init_5 : decode cX17_init 5 = .ok (.iconst (-1), 1) := dk_2 (dk_at dksX17_init_0 5 rfl rfl)
theorem dX17_init_6 : decode cX17_init 6 = .ok (.putfield 9, 3) := dk_181 0 9 (dk_at dksX17_init_0 6 rfl rfl)
theorem dX17_init_9 : decode cX17_init 9 = .ok (.aload_n 0, 1) := dk_42 (dk_at dksX17_init_0 9 rfl rfl)
theorem dX17_init_10 : decode cX17_init 10 = .ok (.iconst 1, 1) := dk_4 (dk_at dksX17_init_0 10 rfl rfl)
theorem dX17_init_11 : decode cX17_init 11 = .ok (.putfield 15, 3) := dk_181 0 15 (dk_at dksX17_init_0 11 rfl rfl)
theorem dX17_init_14 : decode cX17_init 14 = .ok (.aload_n 0, 1) := dk_42 (dk_at dksX17_init_0 14 rfl rfl)
theorem dX17_init_15 : decode cX17_init 15 = .ok (.iload_n 1, 1) := dk_27 (dk_at dksX17_init_0 15 rfl rfl)
theorem dX17_init_16 : decode cX17_init 16 = .ok (.putfield 19, 3) := dk_181 0 19 (dk_at dksX17_init_0 16 rfl rfl)
theorem dX17_init_19 : decode cX17_init 19 = .ok (.return_, 1) := dk_177 (dk_at dksX17_init_0 19 rfl rfl)
theorem q128 : (Jvm.Cond.initialized "CliffHoney$Person") ∈ lw_all := lw_g (lw_at lw_m1 31 rfl) rfl
theorem q1218 : (Jvm.Cond.instantiable "CliffHoney$Person" (5 : Nat)) ∈ lw_all := lw_g (lw_at lw_m5 161 rfl) rfl
theorem q1220 : (Jvm.Cond.instanceMethod ({ cls := "CliffHoney$Person", name := "<init>", desc := "(I)V" } : Jvm.MethodName)) ∈ lw_all := lw_g (lw_at lw_m5 163 rfl) rfl
theorem q1221 : (Jvm.Cond.code ({ cls := "CliffHoney$Person", name := "<init>", desc := "(I)V" } : Jvm.MethodName) prog_16_method_1_code (2 : Nat) (Option.none : Option Jvm.ClassFile.FieldType)) ∈ lw_all := lw_g (lw_at lw_m5 164 rfl) rfl
theorem q1222 : (Jvm.Cond.methodLink "CliffHoney$Person" (3 : Nat) ({ cls := "java/lang/Object", name := "<init>", desc := "()V" } : Jvm.MethodName)) ∈ lw_all := lw_g (lw_at lw_m5 165 rfl) rfl
theorem q1223 : (Jvm.Cond.fieldLink "CliffHoney$Person" (19 : Nat) "CliffHoney$Person" "weight" "I") ∈ lw_all := lw_g (lw_at lw_m5 166 rfl) rfl
theorem q1225 : (Jvm.Cond.fieldLink "CliffHoney$Person" (9 : Nat) "CliffHoney$Person" "heir" "I") ∈ lw_all := lw_g (lw_at lw_m5 168 rfl) rfl
theorem q1230 : (Jvm.Cond.fieldLink "CliffHoney$Person" (15 : Nat) "CliffHoney$Person" "isAlive" "Z") ∈ lw_all := lw_g (lw_at lw_m5 173 rfl) rfl
theorem q1232 : (Jvm.Cond.laysFinal "CliffHoney$Person" "CliffHoney$Person" "weight" "I") ∈ lw_all := lw_g (lw_at lw_m5 175 rfl) rfl
theorem q1233 : (Jvm.Cond.soleField "CliffHoney$Person" "weight") ∈ lw_all := lw_g (lw_at lw_m5 176 rfl) rfl
theorem q1234 : (Jvm.Cond.lays "CliffHoney$Person" "CliffHoney$Person" "heir" "I") ∈ lw_all := lw_g (lw_at lw_m5 177 rfl) rfl
theorem q1235 : (Jvm.Cond.soleField "CliffHoney$Person" "heir") ∈ lw_all := lw_g (lw_at lw_m5 178 rfl) rfl
theorem q1236 : (Jvm.Cond.lays "CliffHoney$Person" "CliffHoney$Person" "learned" "I") ∈ lw_all := lw_g (lw_at lw_m5 179 rfl) rfl
theorem q1237 : (Jvm.Cond.soleField "CliffHoney$Person" "learned") ∈ lw_all := lw_g (lw_at lw_m5 180 rfl) rfl
theorem q1238 : (Jvm.Cond.lays "CliffHoney$Person" "CliffHoney$Person" "money" "I") ∈ lw_all := lw_g (lw_at lw_m5 181 rfl) rfl
theorem q1239 : (Jvm.Cond.soleField "CliffHoney$Person" "money") ∈ lw_all := lw_g (lw_at lw_m5 182 rfl) rfl
theorem q1240 : (Jvm.Cond.lays "CliffHoney$Person" "CliffHoney$Person" "isAlive" "Z") ∈ lw_all := lw_g (lw_at lw_m5 183 rfl) rfl
theorem q1241 : (Jvm.Cond.soleField "CliffHoney$Person" "isAlive") ∈ lw_all := lw_g (lw_at lw_m5 184 rfl) rfl
theorem q1242 : (Jvm.Cond.superclass "CliffHoney$Person" "java/lang/Object") ∈ lw_all := lw_g (lw_at lw_m5 185 rfl) rfl
theorem in_X17 : ∀ w ∈ wsX170, w ∈ lw_all := lw_in wsX170 [1232, 1234, 1236, 1238, 1240] (by decide +kernel) (by decide +kernel)

/-! CliffHoney$Lot -/
set_option maxRecDepth 100000
def RX18 : String := "CliffHoney$Lot"
abbrev cX18_init : ByteArray := prog_12_method_1_code
def yX18_init : MethodName := ⟨RX18, "<init>", "(LCliffHoney;IIII)V"⟩
def dkwX18_init_2 : List UInt8 := [177]
abbrev dktX18_init_2 : List UInt8 := dkwX18_init_2 ++ []
def dkwX18_init_1 : List UInt8 := [42, 21, 4, 3, 16, 90, 184, 0, 26, 181, 0, 30, 42, 21, 5, 3, 16, 90, 184, 0, 26, 181, 0, 33]
abbrev dktX18_init_1 : List UInt8 := dkwX18_init_1 ++ dktX18_init_2
def dkwX18_init_0 : List UInt8 := [42, 43, 181, 0, 3, 42, 183, 0, 9, 42, 4, 181, 0, 15, 42, 28, 181, 0, 19, 42, 29, 181, 0, 23]
abbrev dktX18_init_0 : List UInt8 := dkwX18_init_0 ++ dktX18_init_1
theorem dksX18_init_0 : cX18_init.data.toList.drop 0 = dktX18_init_0 := by decide +kernel
theorem dksX18_init_1 : cX18_init.data.toList.drop 24 = dktX18_init_1 := dk_seg dksX18_init_0 24 rfl rfl
theorem dksX18_init_2 : cX18_init.data.toList.drop 48 = dktX18_init_2 := dk_seg dksX18_init_1 24 rfl rfl
theorem dX18_init_0 : decode cX18_init 0 = .ok (.aload_n 0, 1) := dk_42 (dk_at dksX18_init_0 0 rfl rfl)
theorem dX18_init_1 : decode cX18_init 1 = .ok (.aload_n 1, 1) := dk_43 (dk_at dksX18_init_0 1 rfl rfl)
theorem dX18_init_2 : decode cX18_init 2 = .ok (.putfield 3, 3) := dk_181 0 3 (dk_at dksX18_init_0 2 rfl rfl)
theorem dX18_init_5 : decode cX18_init 5 = .ok (.aload_n 0, 1) := dk_42 (dk_at dksX18_init_0 5 rfl rfl)
theorem dX18_init_6 : decode cX18_init 6 = .ok (.invokespecial 9, 3) := dk_183 0 9 (dk_at dksX18_init_0 6 rfl rfl)
theorem dX18_init_9 : decode cX18_init 9 = .ok (.aload_n 0, 1) := dk_42 (dk_at dksX18_init_0 9 rfl rfl)
theorem dX18_init_10 : decode cX18_init 10 = .ok (.iconst 1, 1) := dk_4 (dk_at dksX18_init_0 10 rfl rfl)
theorem dX18_init_11 : decode cX18_init 11 = .ok (.putfield 15, 3) := dk_181 0 15 (dk_at dksX18_init_0 11 rfl rfl)
theorem dX18_init_14 : decode cX18_init 14 = .ok (.aload_n 0, 1) := dk_42 (dk_at dksX18_init_0 14 rfl rfl)
theorem dX18_init_15 : decode cX18_init 15 = .ok (.iload_n 2, 1) := dk_28 (dk_at dksX18_init_0 15 rfl rfl)
theorem dX18_init_16 : decode cX18_init 16 = .ok (.putfield 19, 3) := dk_181 0 19 (dk_at dksX18_init_0 16 rfl rfl)
theorem dX18_init_19 : decode cX18_init 19 = .ok (.aload_n 0, 1) := dk_42 (dk_at dksX18_init_0 19 rfl rfl)
theorem dX18_init_20 : decode cX18_init 20 = .ok (.iload_n 3, 1) := dk_29 (dk_at dksX18_init_0 20 rfl rfl)
theorem dX18_init_21 : decode cX18_init 21 = .ok (.putfield 23, 3) := dk_181 0 23 (dk_at dksX18_init_0 21 rfl rfl)
theorem dX18_init_24 : decode cX18_init 24 = .ok (.aload_n 0, 1) := dk_42 (dk_at dksX18_init_1 0 rfl rfl)
theorem dX18_init_25 : decode cX18_init 25 = .ok (.iload 4, 2) := dk_21 4 (dk_at dksX18_init_1 1 rfl rfl)
theorem dX18_init_27 : decode cX18_init 27 = .ok (.iconst 0, 1) := dk_3 (dk_at dksX18_init_1 3 rfl rfl)
theorem dX18_init_28 : decode cX18_init 28 = .ok (.bipush 90, 2) := dk_16 90 (dk_at dksX18_init_1 4 rfl rfl)
theorem dX18_init_30 : decode cX18_init 30 = .ok (.invokestatic 26, 3) := dk_184 0 26 (dk_at dksX18_init_1 6 rfl rfl)
theorem dX18_init_33 : decode cX18_init 33 = .ok (.putfield 30, 3) := dk_181 0 30 (dk_at dksX18_init_1 9 rfl rfl)
theorem dX18_init_36 : decode cX18_init 36 = .ok (.aload_n 0, 1) := dk_42 (dk_at dksX18_init_1 12 rfl rfl)
theorem dX18_init_37 : decode cX18_init 37 = .ok (.iload 5, 2) := dk_21 5 (dk_at dksX18_init_1 13 rfl rfl)
theorem dX18_init_39 : decode cX18_init 39 = .ok (.iconst 0, 1) := dk_3 (dk_at dksX18_init_1 15 rfl rfl)
theorem dX18_init_40 : decode cX18_init 40 = .ok (.bipush 90, 2) := dk_16 90 (dk_at dksX18_init_1 16 rfl rfl)
theorem dX18_init_42 : decode cX18_init 42 = .ok (.invokestatic 26, 3) := dk_184 0 26 (dk_at dksX18_init_1 18 rfl rfl)
theorem dX18_init_45 : decode cX18_init 45 = .ok (.putfield 33, 3) := dk_181 0 33 (dk_at dksX18_init_1 21 rfl rfl)
theorem dX18_init_48 : decode cX18_init 48 = .ok (.return_, 1) := dk_177 (dk_at dksX18_init_2 0 rfl rfl)
abbrev cX18_cutter : ByteArray := prog_12_method_2_code
def yX18_cutter : MethodName := ⟨RX18, "cutter", "()I"⟩
theorem dX18_cutter_0 : decode cX18_cutter 0 = .ok (.iconst (-1), 1) := by decide +kernel
theorem dX18_cutter_1 : decode cX18_cutter 1 = .ok (.ireturn, 1) := by decide +kernel
abbrev cX18_rope : ByteArray := prog_12_method_3_code
def yX18_rope : MethodName := ⟨RX18, "rope", "()I"⟩
theorem dX18_rope_0 : decode cX18_rope 0 = .ok (.iconst (-1), 1) := by decide +kernel
theorem dX18_rope_1 : decode cX18_rope 1 = .ok (.ireturn, 1) := by decide +kernel
theorem q129 : (Jvm.Cond.initialized "CliffHoney$Lot") ∈ lw_all := lw_g (lw_at lw_m1 32 rfl) rfl
theorem q1282 : (Jvm.Cond.instanceMethod ({ cls := "CliffHoney$Lot", name := "<init>", desc := "(LCliffHoney;IIII)V" } : Jvm.MethodName)) ∈ lw_all := lw_g (lw_at lw_m5 225 rfl) rfl
theorem q1283 : (Jvm.Cond.code ({ cls := "CliffHoney$Lot", name := "<init>", desc := "(LCliffHoney;IIII)V" } : Jvm.MethodName) prog_12_method_1_code (6 : Nat) (Option.none : Option Jvm.ClassFile.FieldType)) ∈ lw_all := lw_g (lw_at lw_m5 226 rfl) rfl
theorem q1284 : (Jvm.Cond.methodLink "CliffHoney$Lot" (9 : Nat) ({ cls := "java/lang/Object", name := "<init>", desc := "()V" } : Jvm.MethodName)) ∈ lw_all := lw_g (lw_at lw_m5 227 rfl) rfl
theorem q1285 : (Jvm.Cond.methodLinkNest "CliffHoney$Lot" (26 : Nat) ({ cls := "CliffHoney", name := "clamp", desc := "(III)I" } : Jvm.MethodName) "CliffHoney") ∈ lw_tbl := lw_at lw_m5 228 rfl
theorem q1292 : (Jvm.Cond.fieldLink "CliffHoney$Lot" (19 : Nat) "CliffHoney$Lot" "units" "I") ∈ lw_all := lw_g (lw_at lw_m5 235 rfl) rfl
theorem q1299 : (Jvm.Cond.fieldLink "CliffHoney$Lot" (23 : Nat) "CliffHoney$Lot" "date" "I") ∈ lw_all := lw_g (lw_at lw_m6 2 rfl) rfl
theorem q1304 : (Jvm.Cond.fieldLink "CliffHoney$Lot" (30 : Nat) "CliffHoney$Lot" "low" "I") ∈ lw_all := lw_g (lw_at lw_m6 7 rfl) rfl
theorem q1308 : (Jvm.Cond.fieldLink "CliffHoney$Lot" (33 : Nat) "CliffHoney$Lot" "high" "I") ∈ lw_all := lw_g (lw_at lw_m6 11 rfl) rfl
theorem q1311 : (Jvm.Cond.fieldLink "CliffHoney$Lot" (15 : Nat) "CliffHoney$Lot" "isThere" "Z") ∈ lw_all := lw_g (lw_at lw_m6 14 rfl) rfl
theorem q1313 : (Jvm.Cond.fieldLink "CliffHoney$Lot" (3 : Nat) "CliffHoney$Lot" "this$0" "LCliffHoney;") ∈ lw_all := lw_g (lw_at lw_m6 16 rfl) rfl
theorem q1323 : (Jvm.Cond.soleField "CliffHoney$Lot" "units") ∈ lw_all := lw_g (lw_at lw_m6 26 rfl) rfl
theorem q1325 : (Jvm.Cond.soleField "CliffHoney$Lot" "date") ∈ lw_all := lw_g (lw_at lw_m6 28 rfl) rfl
theorem q1327 : (Jvm.Cond.soleField "CliffHoney$Lot" "low") ∈ lw_all := lw_g (lw_at lw_m6 30 rfl) rfl
theorem q1329 : (Jvm.Cond.soleField "CliffHoney$Lot" "high") ∈ lw_all := lw_g (lw_at lw_m6 32 rfl) rfl
theorem q1331 : (Jvm.Cond.soleField "CliffHoney$Lot" "isThere") ∈ lw_all := lw_g (lw_at lw_m6 34 rfl) rfl
theorem q1333 : (Jvm.Cond.soleField "CliffHoney$Lot" "this$0") ∈ lw_all := lw_g (lw_at lw_m6 36 rfl) rfl
theorem q1344 : (Jvm.Cond.instanceMethod ({ cls := "CliffHoney$Lot", name := "cutter", desc := "()I" } : Jvm.MethodName)) ∈ lw_all := lw_g (lw_at lw_m6 47 rfl) rfl
theorem q1345 : (Jvm.Cond.sameMethod "CliffHoney$Lot" "CliffHoney$Lot" "cutter" "()I") ∈ lw_all := lw_g (lw_at lw_m6 48 rfl) rfl
theorem q1350 : (Jvm.Cond.code ({ cls := "CliffHoney$Lot", name := "cutter", desc := "()I" } : Jvm.MethodName) prog_12_method_2_code (1 : Nat) (Option.some Jvm.ClassFile.FieldType.int)) ∈ lw_all := lw_g (lw_at lw_m6 53 rfl) rfl
theorem q1352 : (Jvm.Cond.instanceMethod ({ cls := "CliffHoney$Lot", name := "rope", desc := "()I" } : Jvm.MethodName)) ∈ lw_all := lw_g (lw_at lw_m6 55 rfl) rfl
theorem q1353 : (Jvm.Cond.sameMethod "CliffHoney$Lot" "CliffHoney$Lot" "rope" "()I") ∈ lw_all := lw_g (lw_at lw_m6 56 rfl) rfl
theorem q1358 : (Jvm.Cond.code ({ cls := "CliffHoney$Lot", name := "rope", desc := "()I" } : Jvm.MethodName) prog_12_method_3_code (1 : Nat) (Option.some Jvm.ClassFile.FieldType.int)) ∈ lw_all := lw_g (lw_at lw_m6 61 rfl) rfl
theorem q1360 : (Jvm.Cond.declares ({ cls := "CliffHoney$Lot", name := "set", desc := "()I" } : Jvm.MethodName)) ∈ lw_tbl := lw_at lw_m6 63 rfl
theorem q1361 : (Jvm.Cond.sameMethod "CliffHoney$Lot" "CliffHoney$Lot" "set" "()I") ∈ lw_all := lw_g (lw_at lw_m6 64 rfl) rfl
theorem q1451 : (Jvm.Cond.declares ({ cls := "CliffHoney$Lot", name := "pays", desc := "(I)V" } : Jvm.MethodName)) ∈ lw_tbl := lw_at lw_m6 154 rfl
theorem q1452 : (Jvm.Cond.sameMethod "CliffHoney$Lot" "CliffHoney$Lot" "pays" "(I)V") ∈ lw_all := lw_g (lw_at lw_m6 155 rfl) rfl

/-! CliffHoney$Cut -/
set_option maxRecDepth 100000
def RX19 : String := "CliffHoney$Cut"
def TX19 : u_T := fun k => match k with
  | 0 => ("CliffHoney$Lot", "units", "I", true)
  | 1 => ("CliffHoney$Lot", "date", "I", true)
  | 2 => ("CliffHoney$Lot", "low", "I", false)
  | 3 => ("CliffHoney$Lot", "high", "I", false)
  | 4 => ("CliffHoney$Lot", "isThere", "Z", false)
  | 5 => ("CliffHoney$Lot", "this$0", "LCliffHoney;", true)
  | 6 => ("CliffHoney$Cut", "cutter", "I", true)
  | 7 => ("CliffHoney$Cut", "rope", "I", true)
  | 8 => ("CliffHoney$Cut", "parts", "[I", true)
  | _ => ("CliffHoney$Cut", "this$0", "LCliffHoney;", true)
def tyX19 : Nat → FieldType := fun k => match k with
  | 0 => .int
  | 1 => .int
  | 2 => .int
  | 3 => .int
  | 4 => .boolean
  | 5 => .object "CliffHoney"
  | 6 => .int
  | 7 => .int
  | 8 => .array .int
  | _ => .object "CliffHoney"
abbrev wsX190 : List Cond := u_ws RX19 TX19 10
-- two fields of one name: no nmX19
theorem tyX19_ok : ∀ k, k < 10 → parseFieldDescriptor (TX19 k).2.2.1 = some (tyX19 k) := by decide +kernel
abbrev cX19_init : ByteArray := prog_6_method_1_code
def yX19_init : MethodName := ⟨RX19, "<init>", "(LCliffHoney;IIJII)V"⟩
def dkwX19_init_2 : List UInt8 := [181, 0, 17, 42, 21, 6, 181, 0, 21, 42, 21, 7, 181, 0, 25, 177]
abbrev dktX19_init_2 : List UInt8 := dkwX19_init_2 ++ []
def dkwX19_init_1 : List UInt8 := [22, 4, 105, 28, 133, 97, 10, 101, 28, 133, 109, 136, 8, 96, 183, 0, 11, 42, 16, 12, 188, 10]
abbrev dktX19_init_1 : List UInt8 := dkwX19_init_1 ++ dktX19_init_2
def dkwX19_init_0 : List UInt8 := [42, 43, 181, 0, 3, 42, 43, 28, 29, 20, 0, 9, 22, 4, 105, 28, 133, 109, 136, 8, 100, 20, 0, 9]
abbrev dktX19_init_0 : List UInt8 := dkwX19_init_0 ++ dktX19_init_1
theorem dksX19_init_0 : cX19_init.data.toList.drop 0 = dktX19_init_0 := by decide +kernel
theorem dksX19_init_1 : cX19_init.data.toList.drop 24 = dktX19_init_1 := dk_seg dksX19_init_0 24 rfl rfl
theorem dksX19_init_2 : cX19_init.data.toList.drop 46 = dktX19_init_2 := dk_seg dksX19_init_1 22 rfl rfl
theorem dX19_init_0 : decode cX19_init 0 = .ok (.aload_n 0, 1) := dk_42 (dk_at dksX19_init_0 0 rfl rfl)
theorem dX19_init_1 : decode cX19_init 1 = .ok (.aload_n 1, 1) := dk_43 (dk_at dksX19_init_0 1 rfl rfl)
theorem dX19_init_2 : decode cX19_init 2 = .ok (.putfield 3, 3) := dk_181 0 3 (dk_at dksX19_init_0 2 rfl rfl)
theorem dX19_init_5 : decode cX19_init 5 = .ok (.aload_n 0, 1) := dk_42 (dk_at dksX19_init_0 5 rfl rfl)
theorem dX19_init_6 : decode cX19_init 6 = .ok (.aload_n 1, 1) := dk_43 (dk_at dksX19_init_0 6 rfl rfl)
theorem dX19_init_7 : decode cX19_init 7 = .ok (.iload_n 2, 1) := dk_28 (dk_at dksX19_init_0 7 rfl rfl)
theorem dX19_init_8 : decode cX19_init 8 = .ok (.iload_n 3, 1) := dk_29 (dk_at dksX19_init_0 8 rfl rfl)
theorem dX19_init_9 : decode cX19_init 9 = .ok (.ldc2_w 9, 3) := dk_20 0 9 (dk_at dksX19_init_0 9 rfl rfl)
theorem dX19_init_12 : decode cX19_init 12 = .ok (.lload 4, 2) := dk_22 4 (dk_at dksX19_init_0 12 rfl rfl)
theorem dX19_init_14 : decode cX19_init 14 = .ok (.lmul, 1) := dk_105 (dk_at dksX19_init_0 14 rfl rfl)
theorem dX19_init_15 : decode cX19_init 15 = .ok (.iload_n 2, 1) := dk_28 (dk_at dksX19_init_0 15 rfl rfl)
theorem dX19_init_16 : decode cX19_init 16 = .ok (.i2l, 1) := dk_133 (dk_at dksX19_init_0 16 rfl rfl)
theorem dX19_init_17 : decode cX19_init 17 = .ok (.ldiv, 1) := dk_109 (dk_at dksX19_init_0 17 rfl rfl)
theorem dX19_init_18 : decode cX19_init 18 = .ok (.l2i, 1) := dk_136 (dk_at dksX19_init_0 18 rfl rfl)
theorem dX19_init_19 : decode cX19_init 19 = .ok (.iconst 5, 1) := dk_8 (dk_at dksX19_init_0 19 rfl rfl)
theorem dX19_init_20 : decode cX19_init 20 = .ok (.isub, 1) := dk_100 (dk_at dksX19_init_0 20 rfl rfl)
theorem dX19_init_21 : decode cX19_init 21 = .ok (.ldc2_w 9, 3) := dk_20 0 9 (dk_at dksX19_init_0 21 rfl rfl)
theorem dX19_init_24 : decode cX19_init 24 = .ok (.lload 4, 2) := dk_22 4 (dk_at dksX19_init_1 0 rfl rfl)
theorem dX19_init_26 : decode cX19_init 26 = .ok (.lmul, 1) := dk_105 (dk_at dksX19_init_1 2 rfl rfl)
theorem dX19_init_27 : decode cX19_init 27 = .ok (.iload_n 2, 1) := dk_28 (dk_at dksX19_init_1 3 rfl rfl)
theorem dX19_init_28 : decode cX19_init 28 = .ok (.i2l, 1) := dk_133 (dk_at dksX19_init_1 4 rfl rfl)
theorem dX19_init_29 : decode cX19_init 29 = .ok (.ladd, 1) := dk_97 (dk_at dksX19_init_1 5 rfl rfl)
theorem dX19_init_30 : decode cX19_init 30 = .ok (.lconst 1, 1) := dk_10 (dk_at dksX19_init_1 6 rfl rfl)
theorem dX19_init_31 : decode cX19_init 31 = .ok (.lsub, 1) := dk_101 (dk_at dksX19_init_1 7 rfl rfl)
theorem dX19_init_32 : decode cX19_init 32 = .ok (.iload_n 2, 1) := dk_28 (dk_at dksX19_init_1 8 rfl rfl)
theorem dX19_init_33 : decode cX19_init 33 = .ok (.i2l, 1) := dk_133 (dk_at dksX19_init_1 9 rfl rfl)
theorem dX19_init_34 : decode cX19_init 34 = .ok (.ldiv, 1) := dk_109 (dk_at dksX19_init_1 10 rfl rfl)
theorem dX19_init_35 : decode cX19_init 35 = .ok (.l2i, 1) := dk_136 (dk_at dksX19_init_1 11 rfl rfl)
theorem dX19_init_36 : decode cX19_init 36 = .ok (.iconst 5, 1) := dk_8 (dk_at dksX19_init_1 12 rfl rfl)
theorem dX19_init_37 : decode cX19_init 37 = .ok (.iadd, 1) := dk_96 (dk_at dksX19_init_1 13 rfl rfl)
theorem dX19_init_38 : decode cX19_init 38 = .ok (.invokespecial 11, 3) := dk_183 0 11 (dk_at dksX19_init_1 14 rfl rfl)
theorem dX19_init_41 : decode cX19_init 41 = .ok (.aload_n 0, 1) := dk_42 (dk_at dksX19_init_1 17 rfl rfl)
theorem dX19_init_42 : decode cX19_init 42 = .ok (.bipush 12, 2) := dk_16 12 (dk_at dksX19_init_1 18 rfl rfl)
theorem dX19_init_44 : decode cX19_init 44 = .ok (.newarray .int, 2) := dk_188_10 (dk_at dksX19_init_1 20 rfl rfl)
theorem dX19_init_46 : decode cX19_init 46 = .ok (.putfield 17, 3) := dk_181 0 17 (dk_at dksX19_init_2 0 rfl rfl)
theorem dX19_init_49 : decode cX19_init 49 = .ok (.aload_n 0, 1) := dk_42 (dk_at dksX19_init_2 3 rfl rfl)
theorem dX19_init_50 : decode cX19_init 50 = .ok (.iload 6, 2) := dk_21 6 (dk_at dksX19_init_2 4 rfl rfl)
theorem dX19_init_52 : decode cX19_init 52 = .ok (.putfield 21, 3) := dk_181 0 21 (dk_at dksX19_init_2 6 rfl rfl)
theorem dX19_init_55 : decode cX19_init 55 = .ok (.aload_n 0, 1) := dk_42 (dk_at dksX19_init_2 9 rfl rfl)
theorem dX19_init_56 : decode cX19_init 56 = .ok (.iload 7, 2) := dk_21 7 (dk_at dksX19_init_2 10 rfl rfl)
theorem dX19_init_58 : decode cX19_init 58 = .ok (.putfield 25, 3) := dk_181 0 25 (dk_at dksX19_init_2 12 rfl rfl)
theorem dX19_init_61 : decode cX19_init 61 = .ok (.return_, 1) := dk_177 (dk_at dksX19_init_2 15 rfl rfl)
abbrev cX19_cutter : ByteArray := prog_6_method_2_code
def yX19_cutter : MethodName := ⟨RX19, "cutter", "()I"⟩
theorem dX19_cutter_0 : decode cX19_cutter 0 = .ok (.aload_n 0, 1) := by decide +kernel
theorem dX19_cutter_1 : decode cX19_cutter 1 = .ok (.getfield 21, 3) := by decide +kernel
theorem dX19_cutter_4 : decode cX19_cutter 4 = .ok (.ireturn, 1) := by decide +kernel
abbrev cX19_rope : ByteArray := prog_6_method_3_code
def yX19_rope : MethodName := ⟨RX19, "rope", "()I"⟩
theorem dX19_rope_0 : decode cX19_rope 0 = .ok (.aload_n 0, 1) := by decide +kernel
theorem dX19_rope_1 : decode cX19_rope 1 = .ok (.getfield 25, 3) := by decide +kernel
theorem dX19_rope_4 : decode cX19_rope 4 = .ok (.ireturn, 1) := by decide +kernel
abbrev cX19_set : ByteArray := prog_6_method_4_code
def yX19_set : MethodName := ⟨RX19, "set", "()I"⟩
def dkwX19_set_1 : List UInt8 := [167, 0, 4, 3, 128, 60, 132, 2, 1, 167, 255, 228, 27, 172]
abbrev dktX19_set_1 : List UInt8 := dkwX19_set_1 ++ []
def dkwX19_set_0 : List UInt8 := [3, 60, 3, 61, 28, 16, 12, 162, 0, 28, 27, 42, 180, 0, 17, 28, 46, 158, 0, 9, 4, 28, 120]
abbrev dktX19_set_0 : List UInt8 := dkwX19_set_0 ++ dktX19_set_1
theorem dksX19_set_0 : cX19_set.data.toList.drop 0 = dktX19_set_0 := by decide +kernel
theorem dksX19_set_1 : cX19_set.data.toList.drop 23 = dktX19_set_1 := dk_seg dksX19_set_0 23 rfl rfl
theorem dX19_set_0 : decode cX19_set 0 = .ok (.iconst 0, 1) := dk_3 (dk_at dksX19_set_0 0 rfl rfl)
theorem dX19_set_1 : decode cX19_set 1 = .ok (.istore_n 1, 1) := dk_60 (dk_at dksX19_set_0 1 rfl rfl)
theorem dX19_set_2 : decode cX19_set 2 = .ok (.iconst 0, 1) := dk_3 (dk_at dksX19_set_0 2 rfl rfl)
theorem dX19_set_3 : decode cX19_set 3 = .ok (.istore_n 2, 1) := dk_61 (dk_at dksX19_set_0 3 rfl rfl)
theorem dX19_set_4 : decode cX19_set 4 = .ok (.iload_n 2, 1) := dk_28 (dk_at dksX19_set_0 4 rfl rfl)
theorem dX19_set_5 : decode cX19_set 5 = .ok (.bipush 12, 2) := dk_16 12 (dk_at dksX19_set_0 5 rfl rfl)
theorem dX19_set_7 : decode cX19_set 7 = .ok (.if_icmp .ge 28, 3) := dk_162 0 28 (dk_at dksX19_set_0 7 rfl rfl)
theorem dX19_set_10 : decode cX19_set 10 = .ok (.iload_n 1, 1) := dk_27 (dk_at dksX19_set_0 10 rfl rfl)
theorem dX19_set_11 : decode cX19_set 11 = .ok (.aload_n 0, 1) := dk_42 (dk_at dksX19_set_0 11 rfl rfl)
theorem dX19_set_12 : decode cX19_set 12 = .ok (.getfield 17, 3) := dk_180 0 17 (dk_at dksX19_set_0 12 rfl rfl)
theorem dX19_set_15 : decode cX19_set 15 = .ok (.iload_n 2, 1) := dk_28 (dk_at dksX19_set_0 15 rfl rfl)
theorem dX19_set_16 : decode cX19_set 16 = .ok (.iaload, 1) := dk_46 (dk_at dksX19_set_0 16 rfl rfl)
theorem dX19_set_17 : decode cX19_set 17 = .ok (.ifCond .le 9, 3) := dk_158 0 9 (dk_at dksX19_set_0 17 rfl rfl)
theorem dX19_set_20 : decode cX19_set 20 = .ok (.iconst 1, 1) := dk_4 (dk_at dksX19_set_0 20 rfl rfl)
theorem dX19_set_21 : decode cX19_set 21 = .ok (.iload_n 2, 1) := dk_28 (dk_at dksX19_set_0 21 rfl rfl)
theorem dX19_set_22 : decode cX19_set 22 = .ok (.ishl, 1) := dk_120 (dk_at dksX19_set_0 22 rfl rfl)
theorem dX19_set_23 : decode cX19_set 23 = .ok (.goto 4, 3) := dk_167 0 4 (dk_at dksX19_set_1 0 rfl rfl)
theorem dX19_set_26 : decode cX19_set 26 = .ok (.iconst 0, 1) := dk_3 (dk_at dksX19_set_1 3 rfl rfl)
theorem dX19_set_27 : decode cX19_set 27 = .ok (.ior, 1) := dk_128 (dk_at dksX19_set_1 4 rfl rfl)
theorem dX19_set_28 : decode cX19_set 28 = .ok (.istore_n 1, 1) := dk_60 (dk_at dksX19_set_1 5 rfl rfl)
theorem dX19_set_29 : decode cX19_set 29 = .ok (.iinc 2 1, 3) := dk_132 2 1 (dk_at dksX19_set_1 6 rfl rfl)
theorem dX19_set_32 : decode cX19_set 32 = .ok (.goto (-28), 3) := dk_167 255 228 (dk_at dksX19_set_1 9 rfl rfl)
theorem dX19_set_35 : decode cX19_set 35 = .ok (.iload_n 1, 1) := dk_27 (dk_at dksX19_set_1 12 rfl rfl)
theorem dX19_set_36 : decode cX19_set 36 = .ok (.ireturn, 1) := dk_172 (dk_at dksX19_set_1 13 rfl rfl)
abbrev cX19_pays : ByteArray := prog_6_method_5_code
def yX19_pays : MethodName := ⟨RX19, "pays", "(I)V"⟩
def dkwX19_pays_9 : List UInt8 := [181, 0, 63, 177]
abbrev dktX19_pays_9 : List UInt8 := dkwX19_pays_9 ++ []
def dkwX19_pays_8 : List UInt8 := [133, 109, 136, 182, 0, 60, 100, 62, 132, 5, 1, 167, 255, 181, 42, 180, 0, 3, 89, 180, 0, 63, 29, 96]
abbrev dktX19_pays_8 : List UInt8 := dkwX19_pays_8 ++ dktX19_pays_9
def dkwX19_pays_7 : List UInt8 := [100, 62, 29, 42, 21, 5, 25, 4, 6, 46, 133, 42, 180, 0, 17, 21, 5, 46, 133, 105, 42, 180, 0, 53]
abbrev dktX19_pays_7 : List UInt8 := dkwX19_pays_7 ++ dktX19_pays_8
def dkwX19_pays_6 : List UInt8 := [25, 4, 5, 46, 133, 42, 180, 0, 17, 21, 5, 46, 133, 105, 42, 180, 0, 53, 133, 109, 136, 182, 0, 56]
abbrev dktX19_pays_6 : List UInt8 := dkwX19_pays_6 ++ dktX19_pays_7
def dkwX19_pays_5 : List UInt8 := [46, 96, 100, 62, 3, 54, 5, 21, 5, 42, 180, 0, 3, 180, 0, 50, 162, 0, 69, 29, 42, 21, 5]
abbrev dktX19_pays_5 : List UInt8 := dkwX19_pays_5 ++ dktX19_pays_6
def dkwX19_pays_4 : List UInt8 := [180, 0, 25, 50, 89, 180, 0, 45, 25, 4, 4, 46, 96, 181, 0, 45, 29, 25, 4, 3, 46, 25, 4, 4]
abbrev dktX19_pays_4 : List UInt8 := dkwX19_pays_4 ++ dktX19_pays_5
def dkwX19_pays_3 : List UInt8 := [180, 0, 21, 50, 89, 180, 0, 45, 25, 4, 3, 46, 96, 181, 0, 45, 42, 180, 0, 3, 180, 0, 41, 42]
abbrev dktX19_pays_3 : List UInt8 := dkwX19_pays_3 ++ dktX19_pays_4
def dkwX19_pays_2 : List UInt8 := [44, 182, 0, 32, 133, 109, 136, 79, 132, 5, 1, 167, 255, 224, 42, 180, 0, 3, 180, 0, 41, 42]
abbrev dktX19_pays_2 : List UInt8 := dkwX19_pays_2 ++ dktX19_pays_3
def dkwX19_pays_1 : List UInt8 := [3, 54, 5, 21, 5, 7, 162, 0, 32, 25, 4, 21, 5, 27, 133, 44, 180, 0, 38, 21, 5, 46, 133, 105]
abbrev dktX19_pays_1 : List UInt8 := dkwX19_pays_1 ++ dktX19_pays_2
def dkwX19_pays_0 : List UInt8 := [42, 180, 0, 3, 180, 0, 28, 3, 50, 77, 27, 62, 44, 182, 0, 32, 158, 0, 187, 7, 188, 10, 58, 4]
abbrev dktX19_pays_0 : List UInt8 := dkwX19_pays_0 ++ dktX19_pays_1
theorem dksX19_pays_0 : cX19_pays.data.toList.drop 0 = dktX19_pays_0 := by decide +kernel
theorem dksX19_pays_1 : cX19_pays.data.toList.drop 24 = dktX19_pays_1 := dk_seg dksX19_pays_0 24 rfl rfl
theorem dksX19_pays_2 : cX19_pays.data.toList.drop 48 = dktX19_pays_2 := dk_seg dksX19_pays_1 24 rfl rfl
theorem dksX19_pays_3 : cX19_pays.data.toList.drop 70 = dktX19_pays_3 := dk_seg dksX19_pays_2 22 rfl rfl
theorem dksX19_pays_4 : cX19_pays.data.toList.drop 94 = dktX19_pays_4 := dk_seg dksX19_pays_3 24 rfl rfl
theorem dksX19_pays_5 : cX19_pays.data.toList.drop 118 = dktX19_pays_5 := dk_seg dksX19_pays_4 24 rfl rfl
theorem dksX19_pays_6 : cX19_pays.data.toList.drop 141 = dktX19_pays_6 := dk_seg dksX19_pays_5 23 rfl rfl
theorem dksX19_pays_7 : cX19_pays.data.toList.drop 165 = dktX19_pays_7 := dk_seg dksX19_pays_6 24 rfl rfl
theorem dksX19_pays_8 : cX19_pays.data.toList.drop 189 = dktX19_pays_8 := dk_seg dksX19_pays_7 24 rfl rfl
theorem dksX19_pays_9 : cX19_pays.data.toList.drop 213 = dktX19_pays_9 := dk_seg dksX19_pays_8 24 rfl rfl
theorem dX19_pays_0 : decode cX19_pays 0 = .ok (.aload_n 0, 1) := dk_42 (dk_at dksX19_pays_0 0 rfl rfl)
theorem dX19_pays_1 : decode cX19_pays 1 = .ok (.getfield 3, 3) := dk_180 0 3 (dk_at dksX19_pays_0 1 rfl rfl)
theorem dX19_pays_4 : decode cX19_pays 4 = .ok (.getfield 28, 3) := dk_180 0 28 (dk_at dksX19_pays_0 4 rfl rfl)
theorem dX19_pays_7 : decode cX19_pays 7 = .ok (.iconst 0, 1) := dk_3 (dk_at dksX19_pays_0 7 rfl rfl)
theorem dX19_pays_8 : decode cX19_pays 8 = .ok (.aaload, 1) := dk_50 (dk_at dksX19_pays_0 8 rfl rfl)
theorem dX19_pays_9 : decode cX19_pays 9 = .ok (.astore_n 2, 1) := dk_77 (dk_at dksX19_pays_0 9 rfl rfl)
theorem dX19_pays_10 : decode cX19_pays 10 = .ok (.iload_n 1, 1) := dk_27 (dk_at dksX19_pays_0 10 rfl rfl)
theorem dX19_pays_11 : decode cX19_pays 11 = .ok (.istore_n 3, 1) := dk_62 (dk_at dksX19_pays_0 11 rfl rfl)
theorem dX19_pays_12 : decode cX19_pays 12 = .ok (.aload_n 2, 1) := dk_44 (dk_at dksX19_pays_0 12 rfl rfl)
theorem dX19_pays_13 : decode cX19_pays 13 = .ok (.invokevirtual 32, 3) := dk_182 0 32 (dk_at dksX19_pays_0 13 rfl rfl)
theorem dX19_pays_16 : decode cX19_pays 16 = .ok (.ifCond .le 187, 3) := dk_158 0 187 (dk_at dksX19_pays_0 16 rfl rfl)
theorem dX19_pays_19 : decode cX19_pays 19 = .ok (.iconst 4, 1) := dk_7 (dk_at dksX19_pays_0 19 rfl rfl)
theorem dX19_pays_20 : decode cX19_pays 20 = .ok (.newarray .int, 2) := dk_188_10 (dk_at dksX19_pays_0 20 rfl rfl)
theorem dX19_pays_22 : decode cX19_pays 22 = .ok (.astore 4, 2) := dk_58 4 (dk_at dksX19_pays_0 22 rfl rfl)
theorem dX19_pays_24 : decode cX19_pays 24 = .ok (.iconst 0, 1) := dk_3 (dk_at dksX19_pays_1 0 rfl rfl)
theorem dX19_pays_25 : decode cX19_pays 25 = .ok (.istore 5, 2) := dk_54 5 (dk_at dksX19_pays_1 1 rfl rfl)
theorem dX19_pays_27 : decode cX19_pays 27 = .ok (.iload 5, 2) := dk_21 5 (dk_at dksX19_pays_1 3 rfl rfl)
theorem dX19_pays_29 : decode cX19_pays 29 = .ok (.iconst 4, 1) := dk_7 (dk_at dksX19_pays_1 5 rfl rfl)
theorem dX19_pays_30 : decode cX19_pays 30 = .ok (.if_icmp .ge 32, 3) := dk_162 0 32 (dk_at dksX19_pays_1 6 rfl rfl)
theorem dX19_pays_33 : decode cX19_pays 33 = .ok (.aload 4, 2) := dk_25 4 (dk_at dksX19_pays_1 9 rfl rfl)
theorem dX19_pays_35 : decode cX19_pays 35 = .ok (.iload 5, 2) := dk_21 5 (dk_at dksX19_pays_1 11 rfl rfl)
theorem dX19_pays_37 : decode cX19_pays 37 = .ok (.iload_n 1, 1) := dk_27 (dk_at dksX19_pays_1 13 rfl rfl)
theorem dX19_pays_38 : decode cX19_pays 38 = .ok (.i2l, 1) := dk_133 (dk_at dksX19_pays_1 14 rfl rfl)
theorem dX19_pays_39 : decode cX19_pays 39 = .ok (.aload_n 2, 1) := dk_44 (dk_at dksX19_pays_1 15 rfl rfl)
theorem dX19_pays_40 : decode cX19_pays 40 = .ok (.getfield 38, 3) := dk_180 0 38 (dk_at dksX19_pays_1 16 rfl rfl)
theorem dX19_pays_43 : decode cX19_pays 43 = .ok (.iload 5, 2) := dk_21 5 (dk_at dksX19_pays_1 19 rfl rfl)
theorem dX19_pays_45 : decode cX19_pays 45 = .ok (.iaload, 1) := dk_46 (dk_at dksX19_pays_1 21 rfl rfl)
theorem dX19_pays_46 : decode cX19_pays 46 = .ok (.i2l, 1) := dk_133 (dk_at dksX19_pays_1 22 rfl rfl)
theorem dX19_pays_47 : decode cX19_pays 47 = .ok (.lmul, 1) := dk_105 (dk_at dksX19_pays_1 23 rfl rfl)
theorem dX19_pays_48 : decode cX19_pays 48 = .ok (.aload_n 2, 1) := dk_44 (dk_at dksX19_pays_2 0 rfl rfl)
theorem dX19_pays_49 : decode cX19_pays 49 = .ok (.invokevirtual 32, 3) := dk_182 0 32 (dk_at dksX19_pays_2 1 rfl rfl)
theorem dX19_pays_52 : decode cX19_pays 52 = .ok (.i2l, 1) := dk_133 (dk_at dksX19_pays_2 4 rfl rfl)
theorem dX19_pays_53 : decode cX19_pays 53 = .ok (.ldiv, 1) := dk_109 (dk_at dksX19_pays_2 5 rfl rfl)
theorem dX19_pays_54 : decode cX19_pays 54 = .ok (.l2i, 1) := dk_136 (dk_at dksX19_pays_2 6 rfl rfl)
theorem dX19_pays_55 : decode cX19_pays 55 = .ok (.iastore, 1) := dk_79 (dk_at dksX19_pays_2 7 rfl rfl)
theorem dX19_pays_56 : decode cX19_pays 56 = .ok (.iinc 5 1, 3) := dk_132 5 1 (dk_at dksX19_pays_2 8 rfl rfl)
theorem dX19_pays_59 : decode cX19_pays 59 = .ok (.goto (-32), 3) := dk_167 255 224 (dk_at dksX19_pays_2 11 rfl rfl)
theorem dX19_pays_62 : decode cX19_pays 62 = .ok (.aload_n 0, 1) := dk_42 (dk_at dksX19_pays_2 14 rfl rfl)
theorem dX19_pays_63 : decode cX19_pays 63 = .ok (.getfield 3, 3) := dk_180 0 3 (dk_at dksX19_pays_2 15 rfl rfl)
theorem dX19_pays_66 : decode cX19_pays 66 = .ok (.getfield 41, 3) := dk_180 0 41 (dk_at dksX19_pays_2 18 rfl rfl)
theorem dX19_pays_69 : decode cX19_pays 69 = .ok (.aload_n 0, 1) := dk_42 (dk_at dksX19_pays_2 21 rfl rfl)
theorem dX19_pays_70 : decode cX19_pays 70 = .ok (.getfield 21, 3) := dk_180 0 21 (dk_at dksX19_pays_3 0 rfl rfl)
theorem dX19_pays_73 : decode cX19_pays 73 = .ok (.aaload, 1) := dk_50 (dk_at dksX19_pays_3 3 rfl rfl)
theorem dX19_pays_74 : decode cX19_pays 74 = .ok (.dup, 1) := dk_89 (dk_at dksX19_pays_3 4 rfl rfl)
theorem dX19_pays_75 : decode cX19_pays 75 = .ok (.getfield 45, 3) := dk_180 0 45 (dk_at dksX19_pays_3 5 rfl rfl)
theorem dX19_pays_78 : decode cX19_pays 78 = .ok (.aload 4, 2) := dk_25 4 (dk_at dksX19_pays_3 8 rfl rfl)
theorem dX19_pays_80 : decode cX19_pays 80 = .ok (.iconst 0, 1) := dk_3 (dk_at dksX19_pays_3 10 rfl rfl)
theorem dX19_pays_81 : decode cX19_pays 81 = .ok (.iaload, 1) := dk_46 (dk_at dksX19_pays_3 11 rfl rfl)
theorem dX19_pays_82 : decode cX19_pays 82 = .ok (.iadd, 1) := dk_96 (dk_at dksX19_pays_3 12 rfl rfl)
theorem dX19_pays_83 : decode cX19_pays 83 = .ok (.putfield 45, 3) := dk_181 0 45 (dk_at dksX19_pays_3 13 rfl rfl)
theorem dX19_pays_86 : decode cX19_pays 86 = .ok (.aload_n 0, 1) := dk_42 (dk_at dksX19_pays_3 16 rfl rfl)
theorem dX19_pays_87 : decode cX19_pays 87 = .ok (.getfield 3, 3) := dk_180 0 3 (dk_at dksX19_pays_3 17 rfl rfl)
theorem dX19_pays_90 : decode cX19_pays 90 = .ok (.getfield 41, 3) := dk_180 0 41 (dk_at dksX19_pays_3 20 rfl rfl)
theorem dX19_pays_93 : decode cX19_pays 93 = .ok (.aload_n 0, 1) := dk_42 (dk_at dksX19_pays_3 23 rfl rfl)
theorem dX19_pays_94 : decode cX19_pays 94 = .ok (.getfield 25, 3) := dk_180 0 25 (dk_at dksX19_pays_4 0 rfl rfl)
theorem dX19_pays_97 : decode cX19_pays 97 = .ok (.aaload, 1) := dk_50 (dk_at dksX19_pays_4 3 rfl rfl)
theorem dX19_pays_98 : decode cX19_pays 98 = .ok (.dup, 1) := dk_89 (dk_at dksX19_pays_4 4 rfl rfl)
theorem dX19_pays_99 : decode cX19_pays 99 = .ok (.getfield 45, 3) := dk_180 0 45 (dk_at dksX19_pays_4 5 rfl rfl)
theorem dX19_pays_102 : decode cX19_pays 102 = .ok (.aload 4, 2) := dk_25 4 (dk_at dksX19_pays_4 8 rfl rfl)
theorem dX19_pays_104 : decode cX19_pays 104 = .ok (.iconst 1, 1) := dk_4 (dk_at dksX19_pays_4 10 rfl rfl)
theorem dX19_pays_105 : decode cX19_pays 105 = .ok (.iaload, 1) := dk_46 (dk_at dksX19_pays_4 11 rfl rfl)
theorem dX19_pays_106 : decode cX19_pays 106 = .ok (.iadd, 1) := dk_96 (dk_at dksX19_pays_4 12 rfl rfl)
theorem dX19_pays_107 : decode cX19_pays 107 = .ok (.putfield 45, 3) := dk_181 0 45 (dk_at dksX19_pays_4 13 rfl rfl)
theorem dX19_pays_110 : decode cX19_pays 110 = .ok (.iload_n 3, 1) := dk_29 (dk_at dksX19_pays_4 16 rfl rfl)
theorem dX19_pays_111 : decode cX19_pays 111 = .ok (.aload 4, 2) := dk_25 4 (dk_at dksX19_pays_4 17 rfl rfl)
theorem dX19_pays_113 : decode cX19_pays 113 = .ok (.iconst 0, 1) := dk_3 (dk_at dksX19_pays_4 19 rfl rfl)
theorem dX19_pays_114 : decode cX19_pays 114 = .ok (.iaload, 1) := dk_46 (dk_at dksX19_pays_4 20 rfl rfl)
theorem dX19_pays_115 : decode cX19_pays 115 = .ok (.aload 4, 2) := dk_25 4 (dk_at dksX19_pays_4 21 rfl rfl)
theorem dX19_pays_117 : decode cX19_pays 117 = .ok (.iconst 1, 1) := dk_4 (dk_at dksX19_pays_4 23 rfl rfl)
theorem dX19_pays_118 : decode cX19_pays 118 = .ok (.iaload, 1) := dk_46 (dk_at dksX19_pays_5 0 rfl rfl)
theorem dX19_pays_119 : decode cX19_pays 119 = .ok (.iadd, 1) := dk_96 (dk_at dksX19_pays_5 1 rfl rfl)
theorem dX19_pays_120 : decode cX19_pays 120 = .ok (.isub, 1) := dk_100 (dk_at dksX19_pays_5 2 rfl rfl)
theorem dX19_pays_121 : decode cX19_pays 121 = .ok (.istore_n 3, 1) := dk_62 (dk_at dksX19_pays_5 3 rfl rfl)
theorem dX19_pays_122 : decode cX19_pays 122 = .ok (.iconst 0, 1) := dk_3 (dk_at dksX19_pays_5 4 rfl rfl)
theorem dX19_pays_123 : decode cX19_pays 123 = .ok (.istore 5, 2) := dk_54 5 (dk_at dksX19_pays_5 5 rfl rfl)
theorem dX19_pays_125 : decode cX19_pays 125 = .ok (.iload 5, 2) := dk_21 5 (dk_at dksX19_pays_5 7 rfl rfl)
theorem dX19_pays_127 : decode cX19_pays 127 = .ok (.aload_n 0, 1) := dk_42 (dk_at dksX19_pays_5 9 rfl rfl)
theorem dX19_pays_128 : decode cX19_pays 128 = .ok (.getfield 3, 3) := dk_180 0 3 (dk_at dksX19_pays_5 10 rfl rfl)
theorem dX19_pays_131 : decode cX19_pays 131 = .ok (.getfield 50, 3) := dk_180 0 50 (dk_at dksX19_pays_5 13 rfl rfl)
theorem dX19_pays_134 : decode cX19_pays 134 = .ok (.if_icmp .ge 69, 3) := dk_162 0 69 (dk_at dksX19_pays_5 16 rfl rfl)
theorem dX19_pays_137 : decode cX19_pays 137 = .ok (.iload_n 3, 1) := dk_29 (dk_at dksX19_pays_5 19 rfl rfl)
theorem dX19_pays_138 : decode cX19_pays 138 = .ok (.aload_n 0, 1) := dk_42 (dk_at dksX19_pays_5 20 rfl rfl)
theorem dX19_pays_139 : decode cX19_pays 139 = .ok (.iload 5, 2) := dk_21 5 (dk_at dksX19_pays_5 21 rfl rfl)
theorem dX19_pays_141 : decode cX19_pays 141 = .ok (.aload 4, 2) := dk_25 4 (dk_at dksX19_pays_6 0 rfl rfl)
theorem dX19_pays_143 : decode cX19_pays 143 = .ok (.iconst 2, 1) := dk_5 (dk_at dksX19_pays_6 2 rfl rfl)
theorem dX19_pays_144 : decode cX19_pays 144 = .ok (.iaload, 1) := dk_46 (dk_at dksX19_pays_6 3 rfl rfl)
theorem dX19_pays_145 : decode cX19_pays 145 = .ok (.i2l, 1) := dk_133 (dk_at dksX19_pays_6 4 rfl rfl)
theorem dX19_pays_146 : decode cX19_pays 146 = .ok (.aload_n 0, 1) := dk_42 (dk_at dksX19_pays_6 5 rfl rfl)
theorem dX19_pays_147 : decode cX19_pays 147 = .ok (.getfield 17, 3) := dk_180 0 17 (dk_at dksX19_pays_6 6 rfl rfl)
theorem dX19_pays_150 : decode cX19_pays 150 = .ok (.iload 5, 2) := dk_21 5 (dk_at dksX19_pays_6 9 rfl rfl)
theorem dX19_pays_152 : decode cX19_pays 152 = .ok (.iaload, 1) := dk_46 (dk_at dksX19_pays_6 11 rfl rfl)
theorem dX19_pays_153 : decode cX19_pays 153 = .ok (.i2l, 1) := dk_133 (dk_at dksX19_pays_6 12 rfl rfl)
theorem dX19_pays_154 : decode cX19_pays 154 = .ok (.lmul, 1) := dk_105 (dk_at dksX19_pays_6 13 rfl rfl)
theorem dX19_pays_155 : decode cX19_pays 155 = .ok (.aload_n 0, 1) := dk_42 (dk_at dksX19_pays_6 14 rfl rfl)
theorem dX19_pays_156 : decode cX19_pays 156 = .ok (.getfield 53, 3) := dk_180 0 53 (dk_at dksX19_pays_6 15 rfl rfl)
theorem dX19_pays_159 : decode cX19_pays 159 = .ok (.i2l, 1) := dk_133 (dk_at dksX19_pays_6 18 rfl rfl)
theorem dX19_pays_160 : decode cX19_pays 160 = .ok (.ldiv, 1) := dk_109 (dk_at dksX19_pays_6 19 rfl rfl)
theorem dX19_pays_161 : decode cX19_pays 161 = .ok (.l2i, 1) := dk_136 (dk_at dksX19_pays_6 20 rfl rfl)
theorem dX19_pays_162 : decode cX19_pays 162 = .ok (.invokevirtual 56, 3) := dk_182 0 56 (dk_at dksX19_pays_6 21 rfl rfl)
theorem dX19_pays_165 : decode cX19_pays 165 = .ok (.isub, 1) := dk_100 (dk_at dksX19_pays_7 0 rfl rfl)
theorem dX19_pays_166 : decode cX19_pays 166 = .ok (.istore_n 3, 1) := dk_62 (dk_at dksX19_pays_7 1 rfl rfl)
theorem dX19_pays_167 : decode cX19_pays 167 = .ok (.iload_n 3, 1) := dk_29 (dk_at dksX19_pays_7 2 rfl rfl)
theorem dX19_pays_168 : decode cX19_pays 168 = .ok (.aload_n 0, 1) := dk_42 (dk_at dksX19_pays_7 3 rfl rfl)
theorem dX19_pays_169 : decode cX19_pays 169 = .ok (.iload 5, 2) := dk_21 5 (dk_at dksX19_pays_7 4 rfl rfl)
theorem dX19_pays_171 : decode cX19_pays 171 = .ok (.aload 4, 2) := dk_25 4 (dk_at dksX19_pays_7 6 rfl rfl)
theorem dX19_pays_173 : decode cX19_pays 173 = .ok (.iconst 3, 1) := dk_6 (dk_at dksX19_pays_7 8 rfl rfl)
theorem dX19_pays_174 : decode cX19_pays 174 = .ok (.iaload, 1) := dk_46 (dk_at dksX19_pays_7 9 rfl rfl)
theorem dX19_pays_175 : decode cX19_pays 175 = .ok (.i2l, 1) := dk_133 (dk_at dksX19_pays_7 10 rfl rfl)
theorem dX19_pays_176 : decode cX19_pays 176 = .ok (.aload_n 0, 1) := dk_42 (dk_at dksX19_pays_7 11 rfl rfl)
theorem dX19_pays_177 : decode cX19_pays 177 = .ok (.getfield 17, 3) := dk_180 0 17 (dk_at dksX19_pays_7 12 rfl rfl)
theorem dX19_pays_180 : decode cX19_pays 180 = .ok (.iload 5, 2) := dk_21 5 (dk_at dksX19_pays_7 15 rfl rfl)
theorem dX19_pays_182 : decode cX19_pays 182 = .ok (.iaload, 1) := dk_46 (dk_at dksX19_pays_7 17 rfl rfl)
theorem dX19_pays_183 : decode cX19_pays 183 = .ok (.i2l, 1) := dk_133 (dk_at dksX19_pays_7 18 rfl rfl)
theorem dX19_pays_184 : decode cX19_pays 184 = .ok (.lmul, 1) := dk_105 (dk_at dksX19_pays_7 19 rfl rfl)
theorem dX19_pays_185 : decode cX19_pays 185 = .ok (.aload_n 0, 1) := dk_42 (dk_at dksX19_pays_7 20 rfl rfl)
theorem dX19_pays_186 : decode cX19_pays 186 = .ok (.getfield 53, 3) := dk_180 0 53 (dk_at dksX19_pays_7 21 rfl rfl)
theorem dX19_pays_189 : decode cX19_pays 189 = .ok (.i2l, 1) := dk_133 (dk_at dksX19_pays_8 0 rfl rfl)
theorem dX19_pays_190 : decode cX19_pays 190 = .ok (.ldiv, 1) := dk_109 (dk_at dksX19_pays_8 1 rfl rfl)
theorem dX19_pays_191 : decode cX19_pays 191 = .ok (.l2i, 1) := dk_136 (dk_at dksX19_pays_8 2 rfl rfl)
theorem dX19_pays_192 : decode cX19_pays 192 = .ok (.invokevirtual 60, 3) := dk_182 0 60 (dk_at dksX19_pays_8 3 rfl rfl)
theorem dX19_pays_195 : decode cX19_pays 195 = .ok (.isub, 1) := dk_100 (dk_at dksX19_pays_8 6 rfl rfl)
theorem dX19_pays_196 : decode cX19_pays 196 = .ok (.istore_n 3, 1) := dk_62 (dk_at dksX19_pays_8 7 rfl rfl)
theorem dX19_pays_197 : decode cX19_pays 197 = .ok (.iinc 5 1, 3) := dk_132 5 1 (dk_at dksX19_pays_8 8 rfl rfl)
theorem dX19_pays_200 : decode cX19_pays 200 = .ok (.goto (-75), 3) := dk_167 255 181 (dk_at dksX19_pays_8 11 rfl rfl)
theorem dX19_pays_203 : decode cX19_pays 203 = .ok (.aload_n 0, 1) := dk_42 (dk_at dksX19_pays_8 14 rfl rfl)
theorem dX19_pays_204 : decode cX19_pays 204 = .ok (.getfield 3, 3) := dk_180 0 3 (dk_at dksX19_pays_8 15 rfl rfl)
theorem dX19_pays_207 : decode cX19_pays 207 = .ok (.dup, 1) := dk_89 (dk_at dksX19_pays_8 18 rfl rfl)
theorem dX19_pays_208 : decode cX19_pays 208 = .ok (.getfield 63, 3) := dk_180 0 63 (dk_at dksX19_pays_8 19 rfl rfl)
theorem dX19_pays_211 : decode cX19_pays 211 = .ok (.iload_n 3, 1) := dk_29 (dk_at dksX19_pays_8 22 rfl rfl)
theorem dX19_pays_212 : decode cX19_pays 212 = .ok (.iadd, 1) := dk_96 (dk_at dksX19_pays_8 23 rfl rfl)
theorem dX19_pays_213 : decode cX19_pays 213 = .ok (.putfield 63, 3) := dk_181 0 63 (dk_at dksX19_pays_9 0 rfl rfl)
theorem dX19_pays_216 : decode cX19_pays 216 = .ok (.return_, 1) := dk_177 (dk_at dksX19_pays_9 3 rfl rfl)
abbrev cX19_finds : ByteArray := prog_6_method_6_code
def yX19_finds : MethodName := ⟨RX19, "finds", "(II)I"⟩
def dkwX19_finds_1 : List UInt8 := [180, 0, 41, 29, 50, 89, 180, 0, 45, 28, 96, 181, 0, 45, 28, 172]
abbrev dktX19_finds_1 : List UInt8 := dkwX19_finds_1 ++ []
def dkwX19_finds_0 : List UInt8 := [42, 180, 0, 3, 180, 0, 66, 27, 50, 180, 0, 70, 62, 29, 2, 160, 0, 5, 3, 172, 42, 180, 0, 3]
abbrev dktX19_finds_0 : List UInt8 := dkwX19_finds_0 ++ dktX19_finds_1
theorem dksX19_finds_0 : cX19_finds.data.toList.drop 0 = dktX19_finds_0 := by decide +kernel
theorem dksX19_finds_1 : cX19_finds.data.toList.drop 24 = dktX19_finds_1 := dk_seg dksX19_finds_0 24 rfl rfl
theorem dX19_finds_0 : decode cX19_finds 0 = .ok (.aload_n 0, 1) := dk_42 (dk_at dksX19_finds_0 0 rfl rfl)
theorem dX19_finds_1 : decode cX19_finds 1 = .ok (.getfield 3, 3) := dk_180 0 3 (dk_at dksX19_finds_0 1 rfl rfl)
theorem dX19_finds_4 : decode cX19_finds 4 = .ok (.getfield 66, 3) := dk_180 0 66 (dk_at dksX19_finds_0 4 rfl rfl)
theorem dX19_finds_7 : decode cX19_finds 7 = .ok (.iload_n 1, 1) := dk_27 (dk_at dksX19_finds_0 7 rfl rfl)
theorem dX19_finds_8 : decode cX19_finds 8 = .ok (.aaload, 1) := dk_50 (dk_at dksX19_finds_0 8 rfl rfl)
theorem dX19_finds_9 : decode cX19_finds 9 = .ok (.getfield 70, 3) := dk_180 0 70 (dk_at dksX19_finds_0 9 rfl rfl)
theorem dX19_finds_12 : decode cX19_finds 12 = .ok (.istore_n 3, 1) := dk_62 (dk_at dksX19_finds_0 12 rfl rfl)
theorem dX19_finds_13 : decode cX19_finds 13 = .ok (.iload_n 3, 1) := dk_29 (dk_at dksX19_finds_0 13 rfl rfl)
theorem dX19_finds_14 : decode cX19_finds 14 = .ok (.iconst (-1), 1) := dk_2 (dk_at dksX19_finds_0 14 rfl rfl)
theorem dX19_finds_15 : decode cX19_finds 15 = .ok (.if_icmp .ne 5, 3) := dk_160 0 5 (dk_at dksX19_finds_0 15 rfl rfl)
theorem dX19_finds_18 : decode cX19_finds 18 = .ok (.iconst 0, 1) := dk_3 (dk_at dksX19_finds_0 18 rfl rfl)
theorem dX19_finds_19 : decode cX19_finds 19 = .ok (.ireturn, 1) := dk_172 (dk_at dksX19_finds_0 19 rfl rfl)
theorem dX19_finds_20 : decode cX19_finds 20 = .ok (.aload_n 0, 1) := dk_42 (dk_at dksX19_finds_0 20 rfl rfl)
theorem dX19_finds_21 : decode cX19_finds 21 = .ok (.getfield 3, 3) := dk_180 0 3 (dk_at dksX19_finds_0 21 rfl rfl)
theorem dX19_finds_24 : decode cX19_finds 24 = .ok (.getfield 41, 3) := dk_180 0 41 (dk_at dksX19_finds_1 0 rfl rfl)
theorem dX19_finds_27 : decode cX19_finds 27 = .ok (.iload_n 3, 1) := dk_29 (dk_at dksX19_finds_1 3 rfl rfl)
theorem dX19_finds_28 : decode cX19_finds 28 = .ok (.aaload, 1) := dk_50 (dk_at dksX19_finds_1 4 rfl rfl)
theorem dX19_finds_29 : decode cX19_finds 29 = .ok (.dup, 1) := dk_89 (dk_at dksX19_finds_1 5 rfl rfl)
theorem dX19_finds_30 : decode cX19_finds 30 = .ok (.getfield 45, 3) := dk_180 0 45 (dk_at dksX19_finds_1 6 rfl rfl)
theorem dX19_finds_33 : decode cX19_finds 33 = .ok (.iload_n 2, 1) := dk_28 (dk_at dksX19_finds_1 9 rfl rfl)
theorem dX19_finds_34 : decode cX19_finds 34 = .ok (.iadd, 1) := dk_96 (dk_at dksX19_finds_1 10 rfl rfl)
theorem dX19_finds_35 : decode cX19_finds 35 = .ok (.putfield 45, 3) := dk_181 0 45 (dk_at dksX19_finds_1 11 rfl rfl)
theorem dX19_finds_38 : decode cX19_finds 38 = .ok (.iload_n 2, 1) := dk_28 (dk_at dksX19_finds_1 14 rfl rfl)
theorem dX19_finds_39 : decode cX19_finds 39 = .ok (.ireturn, 1) := dk_172 (dk_at dksX19_finds_1 15 rfl rfl)
abbrev cX19_owns : ByteArray := prog_6_method_7_code
def yX19_owns : MethodName := ⟨RX19, "owns", "(II)I"⟩
def dkwX19_owns_1 : List UInt8 := [160, 0, 5, 3, 172, 42, 180, 0, 3, 180, 0, 82, 29, 92, 46, 28, 96, 79, 28, 172]
abbrev dktX19_owns_1 : List UInt8 := dkwX19_owns_1 ++ []
def dkwX19_owns_0 : List UInt8 := [42, 180, 0, 3, 27, 42, 180, 0, 75, 16, 60, 108, 42, 180, 0, 75, 182, 0, 78, 62, 29, 2]
abbrev dktX19_owns_0 : List UInt8 := dkwX19_owns_0 ++ dktX19_owns_1
theorem dksX19_owns_0 : cX19_owns.data.toList.drop 0 = dktX19_owns_0 := by decide +kernel
theorem dksX19_owns_1 : cX19_owns.data.toList.drop 22 = dktX19_owns_1 := dk_seg dksX19_owns_0 22 rfl rfl
theorem dX19_owns_0 : decode cX19_owns 0 = .ok (.aload_n 0, 1) := dk_42 (dk_at dksX19_owns_0 0 rfl rfl)
theorem dX19_owns_1 : decode cX19_owns 1 = .ok (.getfield 3, 3) := dk_180 0 3 (dk_at dksX19_owns_0 1 rfl rfl)
theorem dX19_owns_4 : decode cX19_owns 4 = .ok (.iload_n 1, 1) := dk_27 (dk_at dksX19_owns_0 4 rfl rfl)
theorem dX19_owns_5 : decode cX19_owns 5 = .ok (.aload_n 0, 1) := dk_42 (dk_at dksX19_owns_0 5 rfl rfl)
theorem dX19_owns_6 : decode cX19_owns 6 = .ok (.getfield 75, 3) := dk_180 0 75 (dk_at dksX19_owns_0 6 rfl rfl)
theorem dX19_owns_9 : decode cX19_owns 9 = .ok (.bipush 60, 2) := dk_16 60 (dk_at dksX19_owns_0 9 rfl rfl)
theorem dX19_owns_11 : decode cX19_owns 11 = .ok (.idiv, 1) := dk_108 (dk_at dksX19_owns_0 11 rfl rfl)
theorem dX19_owns_12 : decode cX19_owns 12 = .ok (.aload_n 0, 1) := dk_42 (dk_at dksX19_owns_0 12 rfl rfl)
theorem dX19_owns_13 : decode cX19_owns 13 = .ok (.getfield 75, 3) := dk_180 0 75 (dk_at dksX19_owns_0 13 rfl rfl)
theorem dX19_owns_16 : decode cX19_owns 16 = .ok (.invokevirtual 78, 3) := dk_182 0 78 (dk_at dksX19_owns_0 16 rfl rfl)
theorem dX19_owns_19 : decode cX19_owns 19 = .ok (.istore_n 3, 1) := dk_62 (dk_at dksX19_owns_0 19 rfl rfl)
theorem dX19_owns_20 : decode cX19_owns 20 = .ok (.iload_n 3, 1) := dk_29 (dk_at dksX19_owns_0 20 rfl rfl)
theorem dX19_owns_21 : decode cX19_owns 21 = .ok (.iconst (-1), 1) := dk_2 (dk_at dksX19_owns_0 21 rfl rfl)
theorem dX19_owns_22 : decode cX19_owns 22 = .ok (.if_icmp .ne 5, 3) := dk_160 0 5 (dk_at dksX19_owns_1 0 rfl rfl)
theorem dX19_owns_25 : decode cX19_owns 25 = .ok (.iconst 0, 1) := dk_3 (dk_at dksX19_owns_1 3 rfl rfl)
theorem dX19_owns_26 : decode cX19_owns 26 = .ok (.ireturn, 1) := dk_172 (dk_at dksX19_owns_1 4 rfl rfl)
theorem dX19_owns_27 : decode cX19_owns 27 = .ok (.aload_n 0, 1) := dk_42 (dk_at dksX19_owns_1 5 rfl rfl)
theorem dX19_owns_28 : decode cX19_owns 28 = .ok (.getfield 3, 3) := dk_180 0 3 (dk_at dksX19_owns_1 6 rfl rfl)
theorem dX19_owns_31 : decode cX19_owns 31 = .ok (.getfield 82, 3) := dk_180 0 82 (dk_at dksX19_owns_1 9 rfl rfl)
theorem dX19_owns_34 : decode cX19_owns 34 = .ok (.iload_n 3, 1) := dk_29 (dk_at dksX19_owns_1 12 rfl rfl)
theorem dX19_owns_35 : decode cX19_owns 35 = .ok (.dup2, 1) := dk_92 (dk_at dksX19_owns_1 13 rfl rfl)
theorem dX19_owns_36 : decode cX19_owns 36 = .ok (.iaload, 1) := dk_46 (dk_at dksX19_owns_1 14 rfl rfl)
theorem dX19_owns_37 : decode cX19_owns 37 = .ok (.iload_n 2, 1) := dk_28 (dk_at dksX19_owns_1 15 rfl rfl)
theorem dX19_owns_38 : decode cX19_owns 38 = .ok (.iadd, 1) := dk_96 (dk_at dksX19_owns_1 16 rfl rfl)
theorem dX19_owns_39 : decode cX19_owns 39 = .ok (.iastore, 1) := dk_79 (dk_at dksX19_owns_1 17 rfl rfl)
theorem dX19_owns_40 : decode cX19_owns 40 = .ok (.iload_n 2, 1) := dk_28 (dk_at dksX19_owns_1 18 rfl rfl)
theorem dX19_owns_41 : decode cX19_owns 41 = .ok (.ireturn, 1) := dk_172 (dk_at dksX19_owns_1 19 rfl rfl)
theorem q130 : (Jvm.Cond.initialized "CliffHoney$Cut") ∈ lw_all := lw_g (lw_at lw_m1 33 rfl) rfl
theorem q279 : (Jvm.Cond.fieldLink "CliffHoney$Cut" (38 : Nat) "CliffHoney$Custom" "shares" "[I") ∈ lw_all := lw_g (lw_at lw_m1 182 rfl) rfl
theorem q308 : (Jvm.Cond.fieldLinkNest "CliffHoney$Cut" (66 : Nat) "CliffHoney" "ledges" "[LCliffHoney$Ledge;" "CliffHoney") ∈ lw_tbl := lw_at lw_m1 211 rfl
theorem q312 : (Jvm.Cond.fieldLinkNest "CliffHoney$Cut" (50 : Nat) "CliffHoney" "many" "I" "CliffHoney") ∈ lw_tbl := lw_at lw_m1 215 rfl
theorem q332 : (Jvm.Cond.fieldLinkNest "CliffHoney$Cut" (28 : Nat) "CliffHoney" "customs" "[LCliffHoney$Custom;" "CliffHoney") ∈ lw_tbl := lw_at lw_m1 235 rfl
theorem q344 : (Jvm.Cond.fieldLinkNest "CliffHoney$Cut" (41 : Nat) "CliffHoney" "people" "[LCliffHoney$Person;" "CliffHoney") ∈ lw_tbl := lw_at lw_m2 7 rfl
theorem q348 : (Jvm.Cond.fieldLinkNest "CliffHoney$Cut" (82 : Nat) "CliffHoney" "villageMoney" "[I" "CliffHoney") ∈ lw_tbl := lw_at lw_m2 11 rfl
theorem q349 : (Jvm.Cond.fieldLinkNest "CliffHoney$Cut" (63 : Nat) "CliffHoney" "temple" "I" "CliffHoney") ∈ lw_tbl := lw_at lw_m2 12 rfl
theorem q491 : (Jvm.Cond.fieldLink "CliffHoney$Cut" (70 : Nat) "CliffHoney$Ledge" "finder" "I") ∈ lw_all := lw_g (lw_at lw_m2 154 rfl) rfl
theorem q1228 : (Jvm.Cond.fieldLink "CliffHoney$Cut" (45 : Nat) "CliffHoney$Person" "money" "I") ∈ lw_all := lw_g (lw_at lw_m5 171 rfl) rfl
theorem q1276 : (Jvm.Cond.instantiable "CliffHoney$Cut" (10 : Nat)) ∈ lw_all := lw_g (lw_at lw_m5 219 rfl) rfl
theorem q1278 : (Jvm.Cond.instanceMethod ({ cls := "CliffHoney$Cut", name := "<init>", desc := "(LCliffHoney;IIJII)V" } : Jvm.MethodName)) ∈ lw_all := lw_g (lw_at lw_m5 221 rfl) rfl
theorem q1279 : (Jvm.Cond.code ({ cls := "CliffHoney$Cut", name := "<init>", desc := "(LCliffHoney;IIJII)V" } : Jvm.MethodName) prog_6_method_1_code (8 : Nat) (Option.none : Option Jvm.ClassFile.FieldType)) ∈ lw_all := lw_g (lw_at lw_m5 222 rfl) rfl
theorem q1280 : (Jvm.Cond.constantLong "CliffHoney$Cut" (9 : Nat) (10 : Int64)) ∈ lw_all := lw_g (lw_at lw_m5 223 rfl) rfl
theorem q1281 : (Jvm.Cond.methodLink "CliffHoney$Cut" (11 : Nat) ({ cls := "CliffHoney$Lot", name := "<init>", desc := "(LCliffHoney;IIII)V" } : Jvm.MethodName)) ∈ lw_all := lw_g (lw_at lw_m5 224 rfl) rfl
theorem q1286 : (Jvm.Cond.fieldLink "CliffHoney$Cut" (21 : Nat) "CliffHoney$Cut" "cutter" "I") ∈ lw_all := lw_g (lw_at lw_m5 229 rfl) rfl
theorem q1287 : (Jvm.Cond.fieldLink "CliffHoney$Cut" (25 : Nat) "CliffHoney$Cut" "rope" "I") ∈ lw_all := lw_g (lw_at lw_m5 230 rfl) rfl
theorem q1288 : (Jvm.Cond.fieldLink "CliffHoney$Cut" (17 : Nat) "CliffHoney$Cut" "parts" "[I") ∈ lw_all := lw_g (lw_at lw_m5 231 rfl) rfl
theorem q1290 : (Jvm.Cond.fieldLink "CliffHoney$Cut" (3 : Nat) "CliffHoney$Cut" "this$0" "LCliffHoney;") ∈ lw_all := lw_g (lw_at lw_m5 233 rfl) rfl
theorem q1296 : (Jvm.Cond.fieldLink "CliffHoney$Cut" (53 : Nat) "CliffHoney$Cut" "units" "I") ∈ lw_all := lw_g (lw_at lw_m5 239 rfl) rfl
theorem q1297 : (Jvm.Cond.sameField "CliffHoney$Cut" "CliffHoney$Lot" "units" "I") ∈ lw_all := lw_g (lw_at lw_m6 0 rfl) rfl
theorem q1300 : (Jvm.Cond.fieldLink "CliffHoney$Cut" (75 : Nat) "CliffHoney$Cut" "date" "I") ∈ lw_all := lw_g (lw_at lw_m6 3 rfl) rfl
theorem q1301 : (Jvm.Cond.sameField "CliffHoney$Cut" "CliffHoney$Lot" "date" "I") ∈ lw_all := lw_g (lw_at lw_m6 4 rfl) rfl
theorem q1314 : (Jvm.Cond.laysFinal "CliffHoney$Cut" "CliffHoney$Cut" "cutter" "I") ∈ lw_all := lw_g (lw_at lw_m6 17 rfl) rfl
theorem q1315 : (Jvm.Cond.soleField "CliffHoney$Cut" "cutter") ∈ lw_all := lw_g (lw_at lw_m6 18 rfl) rfl
theorem q1316 : (Jvm.Cond.laysFinal "CliffHoney$Cut" "CliffHoney$Cut" "rope" "I") ∈ lw_all := lw_g (lw_at lw_m6 19 rfl) rfl
theorem q1317 : (Jvm.Cond.soleField "CliffHoney$Cut" "rope") ∈ lw_all := lw_g (lw_at lw_m6 20 rfl) rfl
theorem q1318 : (Jvm.Cond.laysFinal "CliffHoney$Cut" "CliffHoney$Cut" "parts" "[I") ∈ lw_all := lw_g (lw_at lw_m6 21 rfl) rfl
theorem q1319 : (Jvm.Cond.soleField "CliffHoney$Cut" "parts") ∈ lw_all := lw_g (lw_at lw_m6 22 rfl) rfl
theorem q1320 : (Jvm.Cond.laysFinal "CliffHoney$Cut" "CliffHoney$Cut" "this$0" "LCliffHoney;") ∈ lw_all := lw_g (lw_at lw_m6 23 rfl) rfl
theorem q1321 : (Jvm.Cond.soleField "CliffHoney$Cut" "this$0") ∈ lw_all := lw_g (lw_at lw_m6 24 rfl) rfl
theorem q1322 : (Jvm.Cond.laysFinal "CliffHoney$Cut" "CliffHoney$Lot" "units" "I") ∈ lw_all := lw_g (lw_at lw_m6 25 rfl) rfl
theorem q1324 : (Jvm.Cond.laysFinal "CliffHoney$Cut" "CliffHoney$Lot" "date" "I") ∈ lw_all := lw_g (lw_at lw_m6 27 rfl) rfl
theorem q1326 : (Jvm.Cond.lays "CliffHoney$Cut" "CliffHoney$Lot" "low" "I") ∈ lw_all := lw_g (lw_at lw_m6 29 rfl) rfl
theorem q1328 : (Jvm.Cond.lays "CliffHoney$Cut" "CliffHoney$Lot" "high" "I") ∈ lw_all := lw_g (lw_at lw_m6 31 rfl) rfl
theorem q1330 : (Jvm.Cond.lays "CliffHoney$Cut" "CliffHoney$Lot" "isThere" "Z") ∈ lw_all := lw_g (lw_at lw_m6 33 rfl) rfl
theorem q1332 : (Jvm.Cond.laysFinal "CliffHoney$Cut" "CliffHoney$Lot" "this$0" "LCliffHoney;") ∈ lw_all := lw_g (lw_at lw_m6 35 rfl) rfl
theorem q1334 : (Jvm.Cond.superclass "CliffHoney$Cut" "CliffHoney$Lot") ∈ lw_all := lw_g (lw_at lw_m6 37 rfl) rfl
theorem q1346 : (Jvm.Cond.selects "CliffHoney$Cut" ({ cls := "CliffHoney$Lot", name := "cutter", desc := "()I" } : Jvm.MethodName) ({ cls := "CliffHoney$Cut", name := "cutter", desc := "()I" } : Jvm.MethodName)) ∈ lw_all := lw_g (lw_at lw_m6 49 rfl) rfl
theorem q1347 : (Jvm.Cond.instanceMethod ({ cls := "CliffHoney$Cut", name := "cutter", desc := "()I" } : Jvm.MethodName)) ∈ lw_all := lw_g (lw_at lw_m6 50 rfl) rfl
theorem q1348 : (Jvm.Cond.code ({ cls := "CliffHoney$Cut", name := "cutter", desc := "()I" } : Jvm.MethodName) prog_6_method_2_code (1 : Nat) (Option.some Jvm.ClassFile.FieldType.int)) ∈ lw_all := lw_g (lw_at lw_m6 51 rfl) rfl
theorem q1354 : (Jvm.Cond.selects "CliffHoney$Cut" ({ cls := "CliffHoney$Lot", name := "rope", desc := "()I" } : Jvm.MethodName) ({ cls := "CliffHoney$Cut", name := "rope", desc := "()I" } : Jvm.MethodName)) ∈ lw_all := lw_g (lw_at lw_m6 57 rfl) rfl
theorem q1355 : (Jvm.Cond.instanceMethod ({ cls := "CliffHoney$Cut", name := "rope", desc := "()I" } : Jvm.MethodName)) ∈ lw_all := lw_g (lw_at lw_m6 58 rfl) rfl
theorem q1356 : (Jvm.Cond.code ({ cls := "CliffHoney$Cut", name := "rope", desc := "()I" } : Jvm.MethodName) prog_6_method_3_code (1 : Nat) (Option.some Jvm.ClassFile.FieldType.int)) ∈ lw_all := lw_g (lw_at lw_m6 59 rfl) rfl
theorem q1362 : (Jvm.Cond.selects "CliffHoney$Cut" ({ cls := "CliffHoney$Lot", name := "set", desc := "()I" } : Jvm.MethodName) ({ cls := "CliffHoney$Cut", name := "set", desc := "()I" } : Jvm.MethodName)) ∈ lw_all := lw_g (lw_at lw_m6 65 rfl) rfl
theorem q1363 : (Jvm.Cond.instanceMethod ({ cls := "CliffHoney$Cut", name := "set", desc := "()I" } : Jvm.MethodName)) ∈ lw_all := lw_g (lw_at lw_m6 66 rfl) rfl
theorem q1364 : (Jvm.Cond.code ({ cls := "CliffHoney$Cut", name := "set", desc := "()I" } : Jvm.MethodName) prog_6_method_4_code (3 : Nat) (Option.some Jvm.ClassFile.FieldType.int)) ∈ lw_all := lw_g (lw_at lw_m6 67 rfl) rfl
theorem q1453 : (Jvm.Cond.selects "CliffHoney$Cut" ({ cls := "CliffHoney$Lot", name := "pays", desc := "(I)V" } : Jvm.MethodName) ({ cls := "CliffHoney$Cut", name := "pays", desc := "(I)V" } : Jvm.MethodName)) ∈ lw_all := lw_g (lw_at lw_m6 156 rfl) rfl
theorem q1454 : (Jvm.Cond.instanceMethod ({ cls := "CliffHoney$Cut", name := "pays", desc := "(I)V" } : Jvm.MethodName)) ∈ lw_all := lw_g (lw_at lw_m6 157 rfl) rfl
theorem q1455 : (Jvm.Cond.code ({ cls := "CliffHoney$Cut", name := "pays", desc := "(I)V" } : Jvm.MethodName) prog_6_method_5_code (6 : Nat) (Option.none : Option Jvm.ClassFile.FieldType)) ∈ lw_all := lw_g (lw_at lw_m6 158 rfl) rfl
theorem q1456 : (Jvm.Cond.methodLink "CliffHoney$Cut" (32 : Nat) ({ cls := "CliffHoney$Custom", name := "all", desc := "()I" } : Jvm.MethodName)) ∈ lw_all := lw_g (lw_at lw_m6 159 rfl) rfl
theorem q1460 : (Jvm.Cond.methodLink "CliffHoney$Cut" (56 : Nat) ({ cls := "CliffHoney$Cut", name := "finds", desc := "(II)I" } : Jvm.MethodName)) ∈ lw_all := lw_g (lw_at lw_m6 163 rfl) rfl
theorem q1461 : (Jvm.Cond.privateMethod ({ cls := "CliffHoney$Cut", name := "finds", desc := "(II)I" } : Jvm.MethodName)) ∈ lw_tbl := lw_at lw_m6 164 rfl
theorem q1462 : (Jvm.Cond.instanceMethod ({ cls := "CliffHoney$Cut", name := "finds", desc := "(II)I" } : Jvm.MethodName)) ∈ lw_all := lw_g (lw_at lw_m6 165 rfl) rfl
theorem q1463 : (Jvm.Cond.code ({ cls := "CliffHoney$Cut", name := "finds", desc := "(II)I" } : Jvm.MethodName) prog_6_method_6_code (4 : Nat) (Option.some Jvm.ClassFile.FieldType.int)) ∈ lw_all := lw_g (lw_at lw_m6 166 rfl) rfl
theorem q1464 : (Jvm.Cond.methodLink "CliffHoney$Cut" (60 : Nat) ({ cls := "CliffHoney$Cut", name := "owns", desc := "(II)I" } : Jvm.MethodName)) ∈ lw_all := lw_g (lw_at lw_m6 167 rfl) rfl
theorem q1465 : (Jvm.Cond.privateMethod ({ cls := "CliffHoney$Cut", name := "owns", desc := "(II)I" } : Jvm.MethodName)) ∈ lw_tbl := lw_at lw_m6 168 rfl
theorem q1466 : (Jvm.Cond.instanceMethod ({ cls := "CliffHoney$Cut", name := "owns", desc := "(II)I" } : Jvm.MethodName)) ∈ lw_all := lw_g (lw_at lw_m6 169 rfl) rfl
theorem q1467 : (Jvm.Cond.code ({ cls := "CliffHoney$Cut", name := "owns", desc := "(II)I" } : Jvm.MethodName) prog_6_method_7_code (4 : Nat) (Option.some Jvm.ClassFile.FieldType.int)) ∈ lw_all := lw_g (lw_at lw_m6 170 rfl) rfl
theorem q1468 : (Jvm.Cond.methodLinkNest "CliffHoney$Cut" (78 : Nat) ({ cls := "CliffHoney", name := "whoseOf", desc := "(III)I" } : Jvm.MethodName) "CliffHoney") ∈ lw_tbl := lw_at lw_m6 171 rfl
theorem q2222 : (Jvm.Cond.castable "CliffHoney$Cut" "CliffHoney$Lot") ∈ lw_tbl := lw_at lw_m9 205 rfl
theorem in_X19 : ∀ w ∈ wsX190, w ∈ lw_all := lw_in wsX190 [1322, 1324, 1326, 1328, 1330, 1332, 1314, 1316, 1318, 1320] (by decide +kernel) (by decide +kernel)

/-! CliffHoney$Mix -/
set_option maxRecDepth 100000
def RX20 : String := "CliffHoney$Mix"
def TX20 : u_T := fun k => match k with
  | 0 => ("CliffHoney$Lot", "units", "I", true)
  | 1 => ("CliffHoney$Lot", "date", "I", true)
  | 2 => ("CliffHoney$Lot", "low", "I", false)
  | 3 => ("CliffHoney$Lot", "high", "I", false)
  | 4 => ("CliffHoney$Lot", "isThere", "Z", false)
  | 5 => ("CliffHoney$Lot", "this$0", "LCliffHoney;", true)
  | 6 => ("CliffHoney$Mix", "a", "LCliffHoney$Lot;", true)
  | 7 => ("CliffHoney$Mix", "b", "LCliffHoney$Lot;", true)
  | _ => ("CliffHoney$Mix", "this$0", "LCliffHoney;", true)
def tyX20 : Nat → FieldType := fun k => match k with
  | 0 => .int
  | 1 => .int
  | 2 => .int
  | 3 => .int
  | 4 => .boolean
  | 5 => .object "CliffHoney"
  | 6 => .object "CliffHoney$Lot"
  | 7 => .object "CliffHoney$Lot"
  | _ => .object "CliffHoney"
abbrev wsX200 : List Cond := u_ws RX20 TX20 9
-- two fields of one name: no nmX20
theorem tyX20_ok : ∀ k, k < 9 → parseFieldDescriptor (TX20 k).2.2.1 = some (tyX20 k) := by decide +kernel
abbrev cX20_set : ByteArray := prog_13_method_2_code
def yX20_set : MethodName := ⟨RX20, "set", "()I"⟩
def dkwX20_set_0 : List UInt8 := [42, 180, 0, 32, 182, 0, 39, 42, 180, 0, 36, 182, 0, 39, 128, 172]
abbrev dktX20_set_0 : List UInt8 := dkwX20_set_0 ++ []
theorem dksX20_set_0 : cX20_set.data.toList.drop 0 = dktX20_set_0 := by decide +kernel
theorem dX20_set_0 : decode cX20_set 0 = .ok (.aload_n 0, 1) := dk_42 (dk_at dksX20_set_0 0 rfl rfl)
theorem dX20_set_1 : decode cX20_set 1 = .ok (.getfield 32, 3) := dk_180 0 32 (dk_at dksX20_set_0 1 rfl rfl)
theorem dX20_set_4 : decode cX20_set 4 = .ok (.invokevirtual 39, 3) := dk_182 0 39 (dk_at dksX20_set_0 4 rfl rfl)
theorem dX20_set_7 : decode cX20_set 7 = .ok (.aload_n 0, 1) := dk_42 (dk_at dksX20_set_0 7 rfl rfl)
theorem dX20_set_8 : decode cX20_set 8 = .ok (.getfield 36, 3) := dk_180 0 36 (dk_at dksX20_set_0 8 rfl rfl)
theorem dX20_set_11 : decode cX20_set 11 = .ok (.invokevirtual 39, 3) := dk_182 0 39 (dk_at dksX20_set_0 11 rfl rfl)
theorem dX20_set_14 : decode cX20_set 14 = .ok (.ior, 1) := dk_128 (dk_at dksX20_set_0 14 rfl rfl)
theorem dX20_set_15 : decode cX20_set 15 = .ok (.ireturn, 1) := dk_172 (dk_at dksX20_set_0 15 rfl rfl)
abbrev cX20_init : ByteArray := prog_13_method_1_code
def yX20_init : MethodName := ⟨RX20, "<init>", "(LCliffHoney;LCliffHoney$Lot;LCliffHoney$Lot;I)V"⟩
def dkwX20_init_2 : List UInt8 := [181, 0, 32, 42, 45, 181, 0, 36, 177]
abbrev dktX20_init_2 : List UInt8 := dkwX20_init_2 ++ []
def dkwX20_init_1 : List UInt8 := [180, 0, 13, 184, 0, 16, 44, 180, 0, 22, 45, 180, 0, 22, 184, 0, 25, 183, 0, 28, 42, 44]
abbrev dktX20_init_1 : List UInt8 := dkwX20_init_1 ++ dktX20_init_2
def dkwX20_init_0 : List UInt8 := [42, 43, 181, 0, 1, 42, 43, 44, 180, 0, 7, 45, 180, 0, 7, 96, 21, 4, 44, 180, 0, 13, 45]
abbrev dktX20_init_0 : List UInt8 := dkwX20_init_0 ++ dktX20_init_1
theorem dksX20_init_0 : cX20_init.data.toList.drop 0 = dktX20_init_0 := by decide +kernel
theorem dksX20_init_1 : cX20_init.data.toList.drop 23 = dktX20_init_1 := dk_seg dksX20_init_0 23 rfl rfl
theorem dksX20_init_2 : cX20_init.data.toList.drop 45 = dktX20_init_2 := dk_seg dksX20_init_1 22 rfl rfl
theorem dX20_init_0 : decode cX20_init 0 = .ok (.aload_n 0, 1) := dk_42 (dk_at dksX20_init_0 0 rfl rfl)
theorem dX20_init_1 : decode cX20_init 1 = .ok (.aload_n 1, 1) := dk_43 (dk_at dksX20_init_0 1 rfl rfl)
theorem dX20_init_2 : decode cX20_init 2 = .ok (.putfield 1, 3) := dk_181 0 1 (dk_at dksX20_init_0 2 rfl rfl)
theorem dX20_init_5 : decode cX20_init 5 = .ok (.aload_n 0, 1) := dk_42 (dk_at dksX20_init_0 5 rfl rfl)
theorem dX20_init_6 : decode cX20_init 6 = .ok (.aload_n 1, 1) := dk_43 (dk_at dksX20_init_0 6 rfl rfl)
theorem dX20_init_7 : decode cX20_init 7 = .ok (.aload_n 2, 1) := dk_44 (dk_at dksX20_init_0 7 rfl rfl)
theorem dX20_init_8 : decode cX20_init 8 = .ok (.getfield 7, 3) := dk_180 0 7 (dk_at dksX20_init_0 8 rfl rfl)
theorem dX20_init_11 : decode cX20_init 11 = .ok (.aload_n 3, 1) := dk_45 (dk_at dksX20_init_0 11 rfl rfl)
theorem dX20_init_12 : decode cX20_init 12 = .ok (.getfield 7, 3) := dk_180 0 7 (dk_at dksX20_init_0 12 rfl rfl)
theorem dX20_init_15 : decode cX20_init 15 = .ok (.iadd, 1) := dk_96 (dk_at dksX20_init_0 15 rfl rfl)
theorem dX20_init_16 : decode cX20_init 16 = .ok (.iload 4, 2) := dk_21 4 (dk_at dksX20_init_0 16 rfl rfl)
theorem dX20_init_18 : decode cX20_init 18 = .ok (.aload_n 2, 1) := dk_44 (dk_at dksX20_init_0 18 rfl rfl)
theorem dX20_init_19 : decode cX20_init 19 = .ok (.getfield 13, 3) := dk_180 0 13 (dk_at dksX20_init_0 19 rfl rfl)
theorem dX20_init_22 : decode cX20_init 22 = .ok (.aload_n 3, 1) := dk_45 (dk_at dksX20_init_0 22 rfl rfl)
theorem dX20_init_23 : decode cX20_init 23 = .ok (.getfield 13, 3) := dk_180 0 13 (dk_at dksX20_init_1 0 rfl rfl)
theorem dX20_init_26 : decode cX20_init 26 = .ok (.invokestatic 16, 3) := dk_184 0 16 (dk_at dksX20_init_1 3 rfl rfl)
theorem dX20_init_29 : decode cX20_init 29 = .ok (.aload_n 2, 1) := dk_44 (dk_at dksX20_init_1 6 rfl rfl)
theorem dX20_init_30 : decode cX20_init 30 = .ok (.getfield 22, 3) := dk_180 0 22 (dk_at dksX20_init_1 7 rfl rfl)
theorem dX20_init_33 : decode cX20_init 33 = .ok (.aload_n 3, 1) := dk_45 (dk_at dksX20_init_1 10 rfl rfl)
theorem dX20_init_34 : decode cX20_init 34 = .ok (.getfield 22, 3) := dk_180 0 22 (dk_at dksX20_init_1 11 rfl rfl)
theorem dX20_init_37 : decode cX20_init 37 = .ok (.invokestatic 25, 3) := dk_184 0 25 (dk_at dksX20_init_1 14 rfl rfl)
theorem dX20_init_40 : decode cX20_init 40 = .ok (.invokespecial 28, 3) := dk_183 0 28 (dk_at dksX20_init_1 17 rfl rfl)
theorem dX20_init_43 : decode cX20_init 43 = .ok (.aload_n 0, 1) := dk_42 (dk_at dksX20_init_1 20 rfl rfl)
theorem dX20_init_44 : decode cX20_init 44 = .ok (.aload_n 2, 1) := dk_44 (dk_at dksX20_init_1 21 rfl rfl)
theorem dX20_init_45 : decode cX20_init 45 = .ok (.putfield 32, 3) := dk_181 0 32 (dk_at dksX20_init_2 0 rfl rfl)
theorem dX20_init_48 : decode cX20_init 48 = .ok (.aload_n 0, 1) := dk_42 (dk_at dksX20_init_2 3 rfl rfl)
theorem dX20_init_49 : decode cX20_init 49 = .ok (.aload_n 3, 1) := dk_45 (dk_at dksX20_init_2 4 rfl rfl)
theorem dX20_init_50 : decode cX20_init 50 = .ok (.putfield 36, 3) := dk_181 0 36 (dk_at dksX20_init_2 5 rfl rfl)
theorem dX20_init_53 : decode cX20_init 53 = .ok (.return_, 1) := dk_177 (dk_at dksX20_init_2 8 rfl rfl)
abbrev cX20_pays : ByteArray := prog_13_method_3_code
def yX20_pays : MethodName := ⟨RX20, "pays", "(I)V"⟩
def dkwX20_pays_1 : List UInt8 := [182, 0, 44, 42, 180, 0, 36, 27, 28, 100, 182, 0, 44, 177]
abbrev dktX20_pays_1 : List UInt8 := dkwX20_pays_1 ++ []
def dkwX20_pays_0 : List UInt8 := [27, 133, 42, 180, 0, 32, 180, 0, 7, 133, 105, 42, 180, 0, 43, 133, 109, 136, 61, 42, 180, 0, 32, 28]
abbrev dktX20_pays_0 : List UInt8 := dkwX20_pays_0 ++ dktX20_pays_1
theorem dksX20_pays_0 : cX20_pays.data.toList.drop 0 = dktX20_pays_0 := by decide +kernel
theorem dksX20_pays_1 : cX20_pays.data.toList.drop 24 = dktX20_pays_1 := dk_seg dksX20_pays_0 24 rfl rfl
theorem dX20_pays_0 : decode cX20_pays 0 = .ok (.iload_n 1, 1) := dk_27 (dk_at dksX20_pays_0 0 rfl rfl)
theorem dX20_pays_1 : decode cX20_pays 1 = .ok (.i2l, 1) := dk_133 (dk_at dksX20_pays_0 1 rfl rfl)
theorem dX20_pays_2 : decode cX20_pays 2 = .ok (.aload_n 0, 1) := dk_42 (dk_at dksX20_pays_0 2 rfl rfl)
theorem dX20_pays_3 : decode cX20_pays 3 = .ok (.getfield 32, 3) := dk_180 0 32 (dk_at dksX20_pays_0 3 rfl rfl)
theorem dX20_pays_6 : decode cX20_pays 6 = .ok (.getfield 7, 3) := dk_180 0 7 (dk_at dksX20_pays_0 6 rfl rfl)
theorem dX20_pays_9 : decode cX20_pays 9 = .ok (.i2l, 1) := dk_133 (dk_at dksX20_pays_0 9 rfl rfl)
theorem dX20_pays_10 : decode cX20_pays 10 = .ok (.lmul, 1) := dk_105 (dk_at dksX20_pays_0 10 rfl rfl)
theorem dX20_pays_11 : decode cX20_pays 11 = .ok (.aload_n 0, 1) := dk_42 (dk_at dksX20_pays_0 11 rfl rfl)
theorem dX20_pays_12 : decode cX20_pays 12 = .ok (.getfield 43, 3) := dk_180 0 43 (dk_at dksX20_pays_0 12 rfl rfl)
theorem dX20_pays_15 : decode cX20_pays 15 = .ok (.i2l, 1) := dk_133 (dk_at dksX20_pays_0 15 rfl rfl)
theorem dX20_pays_16 : decode cX20_pays 16 = .ok (.ldiv, 1) := dk_109 (dk_at dksX20_pays_0 16 rfl rfl)
theorem dX20_pays_17 : decode cX20_pays 17 = .ok (.l2i, 1) := dk_136 (dk_at dksX20_pays_0 17 rfl rfl)
theorem dX20_pays_18 : decode cX20_pays 18 = .ok (.istore_n 2, 1) := dk_61 (dk_at dksX20_pays_0 18 rfl rfl)
theorem dX20_pays_19 : decode cX20_pays 19 = .ok (.aload_n 0, 1) := dk_42 (dk_at dksX20_pays_0 19 rfl rfl)
theorem dX20_pays_20 : decode cX20_pays 20 = .ok (.getfield 32, 3) := dk_180 0 32 (dk_at dksX20_pays_0 20 rfl rfl)
theorem dX20_pays_23 : decode cX20_pays 23 = .ok (.iload_n 2, 1) := dk_28 (dk_at dksX20_pays_0 23 rfl rfl)
theorem dX20_pays_24 : decode cX20_pays 24 = .ok (.invokevirtual 44, 3) := dk_182 0 44 (dk_at dksX20_pays_1 0 rfl rfl)
theorem dX20_pays_27 : decode cX20_pays 27 = .ok (.aload_n 0, 1) := dk_42 (dk_at dksX20_pays_1 3 rfl rfl)
theorem dX20_pays_28 : decode cX20_pays 28 = .ok (.getfield 36, 3) := dk_180 0 36 (dk_at dksX20_pays_1 4 rfl rfl)
theorem dX20_pays_31 : decode cX20_pays 31 = .ok (.iload_n 1, 1) := dk_27 (dk_at dksX20_pays_1 7 rfl rfl)
theorem dX20_pays_32 : decode cX20_pays 32 = .ok (.iload_n 2, 1) := dk_28 (dk_at dksX20_pays_1 8 rfl rfl)
theorem dX20_pays_33 : decode cX20_pays 33 = .ok (.isub, 1) := dk_100 (dk_at dksX20_pays_1 9 rfl rfl)
theorem dX20_pays_34 : decode cX20_pays 34 = .ok (.invokevirtual 44, 3) := dk_182 0 44 (dk_at dksX20_pays_1 10 rfl rfl)
theorem dX20_pays_37 : decode cX20_pays 37 = .ok (.return_, 1) := dk_177 (dk_at dksX20_pays_1 13 rfl rfl)
theorem q131 : (Jvm.Cond.initialized "CliffHoney$Mix") ∈ lw_all := lw_g (lw_at lw_m1 34 rfl) rfl
theorem q1291 : (Jvm.Cond.fieldLink "CliffHoney$Mix" (7 : Nat) "CliffHoney$Lot" "units" "I") ∈ lw_all := lw_g (lw_at lw_m5 234 rfl) rfl
theorem q1294 : (Jvm.Cond.fieldLink "CliffHoney$Mix" (43 : Nat) "CliffHoney$Mix" "units" "I") ∈ lw_all := lw_g (lw_at lw_m5 237 rfl) rfl
theorem q1295 : (Jvm.Cond.sameField "CliffHoney$Mix" "CliffHoney$Lot" "units" "I") ∈ lw_all := lw_g (lw_at lw_m5 238 rfl) rfl
theorem q1303 : (Jvm.Cond.fieldLink "CliffHoney$Mix" (13 : Nat) "CliffHoney$Lot" "low" "I") ∈ lw_all := lw_g (lw_at lw_m6 6 rfl) rfl
theorem q1307 : (Jvm.Cond.fieldLink "CliffHoney$Mix" (22 : Nat) "CliffHoney$Lot" "high" "I") ∈ lw_all := lw_g (lw_at lw_m6 10 rfl) rfl
theorem q1349 : (Jvm.Cond.selects "CliffHoney$Mix" ({ cls := "CliffHoney$Lot", name := "cutter", desc := "()I" } : Jvm.MethodName) ({ cls := "CliffHoney$Lot", name := "cutter", desc := "()I" } : Jvm.MethodName)) ∈ lw_all := lw_g (lw_at lw_m6 52 rfl) rfl
theorem q1357 : (Jvm.Cond.selects "CliffHoney$Mix" ({ cls := "CliffHoney$Lot", name := "rope", desc := "()I" } : Jvm.MethodName) ({ cls := "CliffHoney$Lot", name := "rope", desc := "()I" } : Jvm.MethodName)) ∈ lw_all := lw_g (lw_at lw_m6 60 rfl) rfl
theorem q1365 : (Jvm.Cond.selects "CliffHoney$Mix" ({ cls := "CliffHoney$Lot", name := "set", desc := "()I" } : Jvm.MethodName) ({ cls := "CliffHoney$Mix", name := "set", desc := "()I" } : Jvm.MethodName)) ∈ lw_all := lw_g (lw_at lw_m6 68 rfl) rfl
theorem q1366 : (Jvm.Cond.instanceMethod ({ cls := "CliffHoney$Mix", name := "set", desc := "()I" } : Jvm.MethodName)) ∈ lw_all := lw_g (lw_at lw_m6 69 rfl) rfl
theorem q1367 : (Jvm.Cond.code ({ cls := "CliffHoney$Mix", name := "set", desc := "()I" } : Jvm.MethodName) prog_13_method_2_code (1 : Nat) (Option.some Jvm.ClassFile.FieldType.int)) ∈ lw_all := lw_g (lw_at lw_m6 70 rfl) rfl
theorem q1368 : (Jvm.Cond.methodLink "CliffHoney$Mix" (39 : Nat) ({ cls := "CliffHoney$Lot", name := "set", desc := "()I" } : Jvm.MethodName)) ∈ lw_all := lw_g (lw_at lw_m6 71 rfl) rfl
theorem q1382 : (Jvm.Cond.instantiable "CliffHoney$Mix" (9 : Nat)) ∈ lw_all := lw_g (lw_at lw_m6 85 rfl) rfl
theorem q1384 : (Jvm.Cond.instanceMethod ({ cls := "CliffHoney$Mix", name := "<init>", desc := "(LCliffHoney;LCliffHoney$Lot;LCliffHoney$Lot;I)V" } : Jvm.MethodName)) ∈ lw_all := lw_g (lw_at lw_m6 87 rfl) rfl
theorem q1385 : (Jvm.Cond.code ({ cls := "CliffHoney$Mix", name := "<init>", desc := "(LCliffHoney;LCliffHoney$Lot;LCliffHoney$Lot;I)V" } : Jvm.MethodName) prog_13_method_1_code (5 : Nat) (Option.none : Option Jvm.ClassFile.FieldType)) ∈ lw_all := lw_g (lw_at lw_m6 88 rfl) rfl
theorem q1386 : (Jvm.Cond.methodLink "CliffHoney$Mix" (16 : Nat) ({ cls := "java/lang/Math", name := "min", desc := "(II)I" } : Jvm.MethodName)) ∈ lw_all := lw_g (lw_at lw_m6 89 rfl) rfl
theorem q1387 : (Jvm.Cond.methodLink "CliffHoney$Mix" (25 : Nat) ({ cls := "java/lang/Math", name := "max", desc := "(II)I" } : Jvm.MethodName)) ∈ lw_all := lw_g (lw_at lw_m6 90 rfl) rfl
theorem q1388 : (Jvm.Cond.methodLink "CliffHoney$Mix" (28 : Nat) ({ cls := "CliffHoney$Lot", name := "<init>", desc := "(LCliffHoney;IIII)V" } : Jvm.MethodName)) ∈ lw_all := lw_g (lw_at lw_m6 91 rfl) rfl
theorem q1389 : (Jvm.Cond.fieldLink "CliffHoney$Mix" (32 : Nat) "CliffHoney$Mix" "a" "LCliffHoney$Lot;") ∈ lw_all := lw_g (lw_at lw_m6 92 rfl) rfl
theorem q1390 : (Jvm.Cond.fieldLink "CliffHoney$Mix" (36 : Nat) "CliffHoney$Mix" "b" "LCliffHoney$Lot;") ∈ lw_all := lw_g (lw_at lw_m6 93 rfl) rfl
theorem q1391 : (Jvm.Cond.fieldLink "CliffHoney$Mix" (1 : Nat) "CliffHoney$Mix" "this$0" "LCliffHoney;") ∈ lw_all := lw_g (lw_at lw_m6 94 rfl) rfl
theorem q1392 : (Jvm.Cond.laysFinal "CliffHoney$Mix" "CliffHoney$Mix" "a" "LCliffHoney$Lot;") ∈ lw_all := lw_g (lw_at lw_m6 95 rfl) rfl
theorem q1393 : (Jvm.Cond.soleField "CliffHoney$Mix" "a") ∈ lw_all := lw_g (lw_at lw_m6 96 rfl) rfl
theorem q1394 : (Jvm.Cond.laysFinal "CliffHoney$Mix" "CliffHoney$Mix" "b" "LCliffHoney$Lot;") ∈ lw_all := lw_g (lw_at lw_m6 97 rfl) rfl
theorem q1395 : (Jvm.Cond.soleField "CliffHoney$Mix" "b") ∈ lw_all := lw_g (lw_at lw_m6 98 rfl) rfl
theorem q1396 : (Jvm.Cond.laysFinal "CliffHoney$Mix" "CliffHoney$Mix" "this$0" "LCliffHoney;") ∈ lw_all := lw_g (lw_at lw_m6 99 rfl) rfl
theorem q1397 : (Jvm.Cond.soleField "CliffHoney$Mix" "this$0") ∈ lw_all := lw_g (lw_at lw_m6 100 rfl) rfl
theorem q1398 : (Jvm.Cond.laysFinal "CliffHoney$Mix" "CliffHoney$Lot" "units" "I") ∈ lw_all := lw_g (lw_at lw_m6 101 rfl) rfl
theorem q1399 : (Jvm.Cond.laysFinal "CliffHoney$Mix" "CliffHoney$Lot" "date" "I") ∈ lw_all := lw_g (lw_at lw_m6 102 rfl) rfl
theorem q1400 : (Jvm.Cond.lays "CliffHoney$Mix" "CliffHoney$Lot" "low" "I") ∈ lw_all := lw_g (lw_at lw_m6 103 rfl) rfl
theorem q1401 : (Jvm.Cond.lays "CliffHoney$Mix" "CliffHoney$Lot" "high" "I") ∈ lw_all := lw_g (lw_at lw_m6 104 rfl) rfl
theorem q1402 : (Jvm.Cond.lays "CliffHoney$Mix" "CliffHoney$Lot" "isThere" "Z") ∈ lw_all := lw_g (lw_at lw_m6 105 rfl) rfl
theorem q1403 : (Jvm.Cond.laysFinal "CliffHoney$Mix" "CliffHoney$Lot" "this$0" "LCliffHoney;") ∈ lw_all := lw_g (lw_at lw_m6 106 rfl) rfl
theorem q1404 : (Jvm.Cond.superclass "CliffHoney$Mix" "CliffHoney$Lot") ∈ lw_all := lw_g (lw_at lw_m6 107 rfl) rfl
theorem q1472 : (Jvm.Cond.selects "CliffHoney$Mix" ({ cls := "CliffHoney$Lot", name := "pays", desc := "(I)V" } : Jvm.MethodName) ({ cls := "CliffHoney$Mix", name := "pays", desc := "(I)V" } : Jvm.MethodName)) ∈ lw_all := lw_g (lw_at lw_m6 175 rfl) rfl
theorem q1473 : (Jvm.Cond.instanceMethod ({ cls := "CliffHoney$Mix", name := "pays", desc := "(I)V" } : Jvm.MethodName)) ∈ lw_all := lw_g (lw_at lw_m6 176 rfl) rfl
theorem q1474 : (Jvm.Cond.code ({ cls := "CliffHoney$Mix", name := "pays", desc := "(I)V" } : Jvm.MethodName) prog_13_method_3_code (3 : Nat) (Option.none : Option Jvm.ClassFile.FieldType)) ∈ lw_all := lw_g (lw_at lw_m6 177 rfl) rfl
theorem q1475 : (Jvm.Cond.methodLink "CliffHoney$Mix" (44 : Nat) ({ cls := "CliffHoney$Lot", name := "pays", desc := "(I)V" } : Jvm.MethodName)) ∈ lw_all := lw_g (lw_at lw_m6 178 rfl) rfl
theorem q2223 : (Jvm.Cond.castable "CliffHoney$Mix" "CliffHoney$Lot") ∈ lw_tbl := lw_at lw_m9 206 rfl
theorem in_X20 : ∀ w ∈ wsX200, w ∈ lw_all := lw_in wsX200 [1398, 1399, 1400, 1401, 1402, 1403, 1392, 1394, 1396] (by decide +kernel) (by decide +kernel)

/-! CliffHoney$Buyer -/
set_option maxRecDepth 100000
def RX21 : String := "CliffHoney$Buyer"
def TX21 : u_T := fun k => match k with
  | 0 => ("CliffHoney$Buyer", "low", "I", true)
  | 1 => ("CliffHoney$Buyer", "high", "I", true)
  | 2 => ("CliffHoney$Buyer", "price", "I", true)
  | _ => ("CliffHoney$Buyer", "takes", "I", false)
def tyX21 : Nat → FieldType := fun k => match k with
  | 0 => .int
  | 1 => .int
  | 2 => .int
  | _ => .int
abbrev wsX210 : List Cond := u_ws RX21 TX21 4
theorem nmX21 : ∀ a, a < 4 → ∀ b, b < 4 → a ≠ b → (TX21 a).2.1 ≠ (TX21 b).2.1 := by decide +kernel
theorem tyX21_ok : ∀ k, k < 4 → parseFieldDescriptor (TX21 k).2.2.1 = some (tyX21 k) := by decide +kernel
abbrev cX21_init : ByteArray := prog_4_method_1_code
def yX21_init : MethodName := ⟨RX21, "<init>", "(IIII)V"⟩
def dkwX21_init_1 : List UInt8 := [181, 0, 19, 177]
abbrev dktX21_init_1 : List UInt8 := dkwX21_init_1 ++ []
def dkwX21_init_0 : List UInt8 := [42, 183, 0, 1, 42, 27, 181, 0, 7, 42, 28, 181, 0, 13, 42, 29, 181, 0, 16, 42, 21, 4]
abbrev dktX21_init_0 : List UInt8 := dkwX21_init_0 ++ dktX21_init_1
theorem dksX21_init_0 : cX21_init.data.toList.drop 0 = dktX21_init_0 := by decide +kernel
theorem dksX21_init_1 : cX21_init.data.toList.drop 22 = dktX21_init_1 := dk_seg dksX21_init_0 22 rfl rfl
theorem dX21_init_0 : decode cX21_init 0 = .ok (.aload_n 0, 1) := dk_42 (dk_at dksX21_init_0 0 rfl rfl)
theorem dX21_init_1 : decode cX21_init 1 = .ok (.invokespecial 1, 3) := dk_183 0 1 (dk_at dksX21_init_0 1 rfl rfl)
theorem dX21_init_4 : decode cX21_init 4 = .ok (.aload_n 0, 1) := dk_42 (dk_at dksX21_init_0 4 rfl rfl)
theorem dX21_init_5 : decode cX21_init 5 = .ok (.iload_n 1, 1) := dk_27 (dk_at dksX21_init_0 5 rfl rfl)
theorem dX21_init_6 : decode cX21_init 6 = .ok (.putfield 7, 3) := dk_181 0 7 (dk_at dksX21_init_0 6 rfl rfl)
theorem dX21_init_9 : decode cX21_init 9 = .ok (.aload_n 0, 1) := dk_42 (dk_at dksX21_init_0 9 rfl rfl)
theorem dX21_init_10 : decode cX21_init 10 = .ok (.iload_n 2, 1) := dk_28 (dk_at dksX21_init_0 10 rfl rfl)
theorem dX21_init_11 : decode cX21_init 11 = .ok (.putfield 13, 3) := dk_181 0 13 (dk_at dksX21_init_0 11 rfl rfl)
theorem dX21_init_14 : decode cX21_init 14 = .ok (.aload_n 0, 1) := dk_42 (dk_at dksX21_init_0 14 rfl rfl)
theorem dX21_init_15 : decode cX21_init 15 = .ok (.iload_n 3, 1) := dk_29 (dk_at dksX21_init_0 15 rfl rfl)
theorem dX21_init_16 : decode cX21_init 16 = .ok (.putfield 16, 3) := dk_181 0 16 (dk_at dksX21_init_0 16 rfl rfl)
theorem dX21_init_19 : decode cX21_init 19 = .ok (.aload_n 0, 1) := dk_42 (dk_at dksX21_init_0 19 rfl rfl)
theorem dX21_init_20 : decode cX21_init 20 = .ok (.iload 4, 2) := dk_21 4 (dk_at dksX21_init_0 20 rfl rfl)
theorem dX21_init_22 : decode cX21_init 22 = .ok (.putfield 19, 3) := dk_181 0 19 (dk_at dksX21_init_1 0 rfl rfl)
theorem dX21_init_25 : decode cX21_init 25 = .ok (.return_, 1) := dk_177 (dk_at dksX21_init_1 3 rfl rfl)
abbrev cX21_wants : ByteArray := prog_4_method_2_code
def yX21_wants : MethodName := ⟨RX21, "wants", "(LCliffHoney$Lot;)Z"⟩
def dkwX21_wants_1 : List UInt8 := [180, 0, 26, 42, 180, 0, 19, 163, 0, 7, 4, 167, 0, 4, 3, 172]
abbrev dktX21_wants_1 : List UInt8 := dkwX21_wants_1 ++ []
def dkwX21_wants_0 : List UInt8 := [43, 180, 0, 22, 42, 180, 0, 7, 161, 0, 29, 43, 180, 0, 25, 42, 180, 0, 13, 163, 0, 18, 43]
abbrev dktX21_wants_0 : List UInt8 := dkwX21_wants_0 ++ dktX21_wants_1
theorem dksX21_wants_0 : cX21_wants.data.toList.drop 0 = dktX21_wants_0 := by decide +kernel
theorem dksX21_wants_1 : cX21_wants.data.toList.drop 23 = dktX21_wants_1 := dk_seg dksX21_wants_0 23 rfl rfl
theorem dX21_wants_0 : decode cX21_wants 0 = .ok (.aload_n 1, 1) := dk_43 (dk_at dksX21_wants_0 0 rfl rfl)
theorem dX21_wants_1 : decode cX21_wants 1 = .ok (.getfield 22, 3) := dk_180 0 22 (dk_at dksX21_wants_0 1 rfl rfl)
theorem dX21_wants_4 : decode cX21_wants 4 = .ok (.aload_n 0, 1) := dk_42 (dk_at dksX21_wants_0 4 rfl rfl)
theorem dX21_wants_5 : decode cX21_wants 5 = .ok (.getfield 7, 3) := dk_180 0 7 (dk_at dksX21_wants_0 5 rfl rfl)
theorem dX21_wants_8 : decode cX21_wants 8 = .ok (.if_icmp .lt 29, 3) := dk_161 0 29 (dk_at dksX21_wants_0 8 rfl rfl)
theorem dX21_wants_11 : decode cX21_wants 11 = .ok (.aload_n 1, 1) := dk_43 (dk_at dksX21_wants_0 11 rfl rfl)
theorem dX21_wants_12 : decode cX21_wants 12 = .ok (.getfield 25, 3) := dk_180 0 25 (dk_at dksX21_wants_0 12 rfl rfl)
theorem dX21_wants_15 : decode cX21_wants 15 = .ok (.aload_n 0, 1) := dk_42 (dk_at dksX21_wants_0 15 rfl rfl)
theorem dX21_wants_16 : decode cX21_wants 16 = .ok (.getfield 13, 3) := dk_180 0 13 (dk_at dksX21_wants_0 16 rfl rfl)
theorem dX21_wants_19 : decode cX21_wants 19 = .ok (.if_icmp .gt 18, 3) := dk_163 0 18 (dk_at dksX21_wants_0 19 rfl rfl)
theorem dX21_wants_22 : decode cX21_wants 22 = .ok (.aload_n 1, 1) := dk_43 (dk_at dksX21_wants_0 22 rfl rfl)
theorem dX21_wants_23 : decode cX21_wants 23 = .ok (.getfield 26, 3) := dk_180 0 26 (dk_at dksX21_wants_1 0 rfl rfl)
theorem dX21_wants_26 : decode cX21_wants 26 = .ok (.aload_n 0, 1) := dk_42 (dk_at dksX21_wants_1 3 rfl rfl)
theorem dX21_wants_27 : decode cX21_wants 27 = .ok (.getfield 19, 3) := dk_180 0 19 (dk_at dksX21_wants_1 4 rfl rfl)
theorem dX21_wants_30 : decode cX21_wants 30 = .ok (.if_icmp .gt 7, 3) := dk_163 0 7 (dk_at dksX21_wants_1 7 rfl rfl)
theorem dX21_wants_33 : decode cX21_wants 33 = .ok (.iconst 1, 1) := dk_4 (dk_at dksX21_wants_1 10 rfl rfl)
theorem dX21_wants_34 : decode cX21_wants 34 = .ok (.goto 4, 3) := dk_167 0 4 (dk_at dksX21_wants_1 11 rfl rfl)
theorem dX21_wants_37 : decode cX21_wants 37 = .ok (.iconst 0, 1) := dk_3 (dk_at dksX21_wants_1 14 rfl rfl)
theorem dX21_wants_38 : decode cX21_wants 38 = .ok (.ireturn, 1) := dk_172 (dk_at dksX21_wants_1 15 rfl rfl)
theorem q132 : (Jvm.Cond.initialized "CliffHoney$Buyer") ∈ lw_all := lw_g (lw_at lw_m1 35 rfl) rfl
theorem q1293 : (Jvm.Cond.fieldLink "CliffHoney$Buyer" (26 : Nat) "CliffHoney$Lot" "units" "I") ∈ lw_all := lw_g (lw_at lw_m5 236 rfl) rfl
theorem q1305 : (Jvm.Cond.fieldLink "CliffHoney$Buyer" (22 : Nat) "CliffHoney$Lot" "low" "I") ∈ lw_all := lw_g (lw_at lw_m6 8 rfl) rfl
theorem q1309 : (Jvm.Cond.fieldLink "CliffHoney$Buyer" (25 : Nat) "CliffHoney$Lot" "high" "I") ∈ lw_all := lw_g (lw_at lw_m6 12 rfl) rfl
theorem q1410 : (Jvm.Cond.instantiable "CliffHoney$Buyer" (4 : Nat)) ∈ lw_all := lw_g (lw_at lw_m6 113 rfl) rfl
theorem q1412 : (Jvm.Cond.instanceMethod ({ cls := "CliffHoney$Buyer", name := "<init>", desc := "(IIII)V" } : Jvm.MethodName)) ∈ lw_all := lw_g (lw_at lw_m6 115 rfl) rfl
theorem q1413 : (Jvm.Cond.code ({ cls := "CliffHoney$Buyer", name := "<init>", desc := "(IIII)V" } : Jvm.MethodName) prog_4_method_1_code (5 : Nat) (Option.none : Option Jvm.ClassFile.FieldType)) ∈ lw_all := lw_g (lw_at lw_m6 116 rfl) rfl
theorem q1414 : (Jvm.Cond.methodLink "CliffHoney$Buyer" (1 : Nat) ({ cls := "java/lang/Object", name := "<init>", desc := "()V" } : Jvm.MethodName)) ∈ lw_all := lw_g (lw_at lw_m6 117 rfl) rfl
theorem q1415 : (Jvm.Cond.fieldLink "CliffHoney$Buyer" (7 : Nat) "CliffHoney$Buyer" "low" "I") ∈ lw_all := lw_g (lw_at lw_m6 118 rfl) rfl
theorem q1416 : (Jvm.Cond.fieldLink "CliffHoney$Buyer" (13 : Nat) "CliffHoney$Buyer" "high" "I") ∈ lw_all := lw_g (lw_at lw_m6 119 rfl) rfl
theorem q1417 : (Jvm.Cond.fieldLink "CliffHoney$Buyer" (16 : Nat) "CliffHoney$Buyer" "price" "I") ∈ lw_all := lw_g (lw_at lw_m6 120 rfl) rfl
theorem q1419 : (Jvm.Cond.fieldLink "CliffHoney$Buyer" (19 : Nat) "CliffHoney$Buyer" "takes" "I") ∈ lw_all := lw_g (lw_at lw_m6 122 rfl) rfl
theorem q1421 : (Jvm.Cond.laysFinal "CliffHoney$Buyer" "CliffHoney$Buyer" "low" "I") ∈ lw_all := lw_g (lw_at lw_m6 124 rfl) rfl
theorem q1422 : (Jvm.Cond.soleField "CliffHoney$Buyer" "low") ∈ lw_all := lw_g (lw_at lw_m6 125 rfl) rfl
theorem q1423 : (Jvm.Cond.laysFinal "CliffHoney$Buyer" "CliffHoney$Buyer" "high" "I") ∈ lw_all := lw_g (lw_at lw_m6 126 rfl) rfl
theorem q1424 : (Jvm.Cond.soleField "CliffHoney$Buyer" "high") ∈ lw_all := lw_g (lw_at lw_m6 127 rfl) rfl
theorem q1425 : (Jvm.Cond.laysFinal "CliffHoney$Buyer" "CliffHoney$Buyer" "price" "I") ∈ lw_all := lw_g (lw_at lw_m6 128 rfl) rfl
theorem q1426 : (Jvm.Cond.soleField "CliffHoney$Buyer" "price") ∈ lw_all := lw_g (lw_at lw_m6 129 rfl) rfl
theorem q1427 : (Jvm.Cond.lays "CliffHoney$Buyer" "CliffHoney$Buyer" "takes" "I") ∈ lw_all := lw_g (lw_at lw_m6 130 rfl) rfl
theorem q1428 : (Jvm.Cond.soleField "CliffHoney$Buyer" "takes") ∈ lw_all := lw_g (lw_at lw_m6 131 rfl) rfl
theorem q1429 : (Jvm.Cond.superclass "CliffHoney$Buyer" "java/lang/Object") ∈ lw_all := lw_g (lw_at lw_m6 132 rfl) rfl
theorem q1443 : (Jvm.Cond.instanceMethod ({ cls := "CliffHoney$Buyer", name := "wants", desc := "(LCliffHoney$Lot;)Z" } : Jvm.MethodName)) ∈ lw_all := lw_g (lw_at lw_m6 146 rfl) rfl
theorem q1444 : (Jvm.Cond.selects "CliffHoney$Buyer" ({ cls := "CliffHoney$Buyer", name := "wants", desc := "(LCliffHoney$Lot;)Z" } : Jvm.MethodName) ({ cls := "CliffHoney$Buyer", name := "wants", desc := "(LCliffHoney$Lot;)Z" } : Jvm.MethodName)) ∈ lw_all := lw_g (lw_at lw_m6 147 rfl) rfl
theorem q1445 : (Jvm.Cond.code ({ cls := "CliffHoney$Buyer", name := "wants", desc := "(LCliffHoney$Lot;)Z" } : Jvm.MethodName) prog_4_method_2_code (2 : Nat) (Option.some Jvm.ClassFile.FieldType.boolean)) ∈ lw_all := lw_g (lw_at lw_m6 148 rfl) rfl
theorem in_X21 : ∀ w ∈ wsX210, w ∈ lw_all := lw_in wsX210 [1421, 1423, 1425, 1427] (by decide +kernel) (by decide +kernel)

