/-! WheelTables$Wrong -/
set_option maxRecDepth 100000
def RX1 : String := "WheelTables$Wrong"
def TX1 : u_T := fun k => match k with
  | 0 => ("java/lang/Throwable", "cause", "Ljava/lang/Throwable;", false)
  | 1 => ("java/lang/Throwable", "stackTrace", "[Ljava/lang/StackTraceElement;", false)
  | 2 => ("java/lang/Throwable", "suppressedExceptions", "Ljava/util/List;", false)
  | 3 => ("java/lang/Throwable", "detailMessage", "Ljava/lang/String;", false)
  | 4 => ("java/lang/Throwable", "backtrace", "Ljava/lang/Object;", false)
  | 5 => ("java/lang/Throwable", "depth", "I", false)
  | 6 => ("WheelTables$Wrong", "kind", "I", false)
  | _ => ("WheelTables$Wrong", "place", "I", false)
def tyX1 : Nat → FieldType := fun k => match k with
  | 0 => .object "java/lang/Throwable"
  | 1 => .array (.object "java/lang/StackTraceElement")
  | 2 => .object "java/util/List"
  | 3 => .object "java/lang/String"
  | 4 => .object "java/lang/Object"
  | 5 => .int
  | 6 => .int
  | _ => .int
abbrev wsX10 : List Cond := u_ws RX1 TX1 8
theorem nmX1 : ∀ a, a < 8 → ∀ b, b < 8 → a ≠ b → (TX1 a).2.1 ≠ (TX1 b).2.1 := by decide +kernel
theorem tyX1_ok : ∀ k, k < 8 → parseFieldDescriptor (TX1 k).2.2.1 = some (tyX1 k) := by decide +kernel
abbrev cX1_init : ByteArray := prog_7_method_1_code
def yX1_init : MethodName := ⟨RX1, "<init>", "()V"⟩
def dkwX1_init_0 : List UInt8 := [42, 1, 1, 3, 3, 183, 0, 1, 177]
abbrev dktX1_init_0 : List UInt8 := dkwX1_init_0 ++ []
theorem dksX1_init_0 : cX1_init.data.toList.drop 0 = dktX1_init_0 := by decide +kernel
theorem dX1_init_0 : decode cX1_init 0 = .ok (.aload_n 0, 1) := dk_42 (dk_at dksX1_init_0 0 rfl rfl)
theorem dX1_init_1 : decode cX1_init 1 = .ok (.aconst_null, 1) := dk_1 (dk_at dksX1_init_0 1 rfl rfl)
theorem dX1_init_2 : decode cX1_init 2 = .ok (.aconst_null, 1) := dk_1 (dk_at dksX1_init_0 2 rfl rfl)
theorem dX1_init_3 : decode cX1_init 3 = .ok (.iconst 0, 1) := dk_3 (dk_at dksX1_init_0 3 rfl rfl)
theorem dX1_init_4 : decode cX1_init 4 = .ok (.iconst 0, 1) := dk_3 (dk_at dksX1_init_0 4 rfl rfl)
theorem dX1_init_5 : decode cX1_init 5 = .ok (.invokespecial 1, 3) := dk_183 0 1 (dk_at dksX1_init_0 5 rfl rfl)
theorem dX1_init_8 : decode cX1_init 8 = .ok (.return_, 1) := dk_177 (dk_at dksX1_init_0 8 rfl rfl)
abbrev cX1_of : ByteArray := prog_7_method_2_code
def yX1_of : MethodName := ⟨RX1, "of", "(II)LWheelTables$Wrong;"⟩
def dkwX1_of_0 : List UInt8 := [42, 27, 181, 0, 7, 42, 28, 181, 0, 13, 42, 176]
abbrev dktX1_of_0 : List UInt8 := dkwX1_of_0 ++ []
theorem dksX1_of_0 : cX1_of.data.toList.drop 0 = dktX1_of_0 := by decide +kernel
theorem dX1_of_0 : decode cX1_of 0 = .ok (.aload_n 0, 1) := dk_42 (dk_at dksX1_of_0 0 rfl rfl)
theorem dX1_of_1 : decode cX1_of 1 = .ok (.iload_n 1, 1) := dk_27 (dk_at dksX1_of_0 1 rfl rfl)
theorem dX1_of_2 : decode cX1_of 2 = .ok (.putfield 7, 3) := dk_181 0 7 (dk_at dksX1_of_0 2 rfl rfl)
theorem dX1_of_5 : decode cX1_of 5 = .ok (.aload_n 0, 1) := dk_42 (dk_at dksX1_of_0 5 rfl rfl)
theorem dX1_of_6 : decode cX1_of 6 = .ok (.iload_n 2, 1) := dk_28 (dk_at dksX1_of_0 6 rfl rfl)
theorem dX1_of_7 : decode cX1_of 7 = .ok (.putfield 13, 3) := dk_181 0 13 (dk_at dksX1_of_0 7 rfl rfl)
theorem dX1_of_10 : decode cX1_of 10 = .ok (.aload_n 0, 1) := dk_42 (dk_at dksX1_of_0 10 rfl rfl)
theorem dX1_of_11 : decode cX1_of 11 = .ok (.areturn, 1) := dk_176 (dk_at dksX1_of_0 11 rfl rfl)
theorem q99 : (Jvm.Cond.initialized "WheelTables$Wrong") ∈ lw_all := lw_g (lw_at lw_m1 5 rfl) rfl
theorem q131 : (Jvm.Cond.instantiable "WheelTables$Wrong" (8 : Nat)) ∈ lw_all := lw_g (lw_at lw_m1 37 rfl) rfl
theorem q132 : (Jvm.Cond.castable "WheelTables$Wrong" "WheelTables$Wrong") ∈ lw_tbl := lw_at lw_m1 38 rfl
theorem q139 : (Jvm.Cond.selects "WheelTables$Wrong" ({ cls := "java/lang/Throwable", name := "fillInStackTrace", desc := "(I)Ljava/lang/Throwable;" } : Jvm.MethodName) ({ cls := "java/lang/Throwable", name := "fillInStackTrace", desc := "(I)Ljava/lang/Throwable;" } : Jvm.MethodName)) ∈ lw_all := lw_g (lw_at lw_m1 45 rfl) rfl
theorem q140 : (Jvm.Cond.selects "WheelTables$Wrong" ({ cls := "java/lang/Throwable", name := "fillInStackTrace", desc := "()Ljava/lang/Throwable;" } : Jvm.MethodName) ({ cls := "java/lang/Throwable", name := "fillInStackTrace", desc := "()Ljava/lang/Throwable;" } : Jvm.MethodName)) ∈ lw_all := lw_g (lw_at lw_m1 46 rfl) rfl
theorem q141 : (Jvm.Cond.lays "WheelTables$Wrong" "java/lang/Throwable" "cause" "Ljava/lang/Throwable;") ∈ lw_all := lw_g (lw_at lw_m1 47 rfl) rfl
theorem q143 : (Jvm.Cond.lays "WheelTables$Wrong" "java/lang/Throwable" "stackTrace" "[Ljava/lang/StackTraceElement;") ∈ lw_all := lw_g (lw_at lw_m1 49 rfl) rfl
theorem q145 : (Jvm.Cond.lays "WheelTables$Wrong" "java/lang/Throwable" "suppressedExceptions" "Ljava/util/List;") ∈ lw_all := lw_g (lw_at lw_m1 51 rfl) rfl
theorem q147 : (Jvm.Cond.lays "WheelTables$Wrong" "java/lang/Throwable" "detailMessage" "Ljava/lang/String;") ∈ lw_all := lw_g (lw_at lw_m1 53 rfl) rfl
theorem q149 : (Jvm.Cond.lays "WheelTables$Wrong" "java/lang/Throwable" "backtrace" "Ljava/lang/Object;") ∈ lw_all := lw_g (lw_at lw_m1 55 rfl) rfl
theorem q186 : (Jvm.Cond.instanceMethod ({ cls := "WheelTables$Wrong", name := "<init>", desc := "()V" } : Jvm.MethodName)) ∈ lw_all := lw_g (lw_at lw_m1 92 rfl) rfl
theorem q187 : (Jvm.Cond.code ({ cls := "WheelTables$Wrong", name := "<init>", desc := "()V" } : Jvm.MethodName) prog_7_method_1_code (1 : Nat) (Option.none : Option Jvm.ClassFile.FieldType)) ∈ lw_all := lw_g (lw_at lw_m1 93 rfl) rfl
theorem q188 : (Jvm.Cond.methodLink "WheelTables$Wrong" (1 : Nat) ({ cls := "java/lang/RuntimeException", name := "<init>", desc := "(Ljava/lang/String;Ljava/lang/Throwable;ZZ)V" } : Jvm.MethodName)) ∈ lw_all := lw_g (lw_at lw_m1 94 rfl) rfl
theorem q197 : (Jvm.Cond.fieldLink "WheelTables$Wrong" (7 : Nat) "WheelTables$Wrong" "kind" "I") ∈ lw_all := lw_g (lw_at lw_m1 103 rfl) rfl
theorem q199 : (Jvm.Cond.fieldLink "WheelTables$Wrong" (13 : Nat) "WheelTables$Wrong" "place" "I") ∈ lw_all := lw_g (lw_at lw_m1 105 rfl) rfl
theorem q206 : (Jvm.Cond.lays "WheelTables$Wrong" "WheelTables$Wrong" "kind" "I") ∈ lw_all := lw_g (lw_at lw_m1 112 rfl) rfl
theorem q207 : (Jvm.Cond.soleField "WheelTables$Wrong" "kind") ∈ lw_all := lw_g (lw_at lw_m1 113 rfl) rfl
theorem q208 : (Jvm.Cond.lays "WheelTables$Wrong" "WheelTables$Wrong" "place" "I") ∈ lw_all := lw_g (lw_at lw_m1 114 rfl) rfl
theorem q209 : (Jvm.Cond.soleField "WheelTables$Wrong" "place") ∈ lw_all := lw_g (lw_at lw_m1 115 rfl) rfl
theorem q214 : (Jvm.Cond.lays "WheelTables$Wrong" "java/lang/Throwable" "depth" "I") ∈ lw_all := lw_g (lw_at lw_m1 120 rfl) rfl
theorem q217 : (Jvm.Cond.superclass "WheelTables$Wrong" "java/lang/RuntimeException") ∈ lw_all := lw_g (lw_at lw_m1 123 rfl) rfl
theorem q876 : (Jvm.Cond.instanceMethod ({ cls := "WheelTables$Wrong", name := "of", desc := "(II)LWheelTables$Wrong;" } : Jvm.MethodName)) ∈ lw_all := lw_g (lw_at lw_m4 62 rfl) rfl
theorem q877 : (Jvm.Cond.selects "WheelTables$Wrong" ({ cls := "WheelTables$Wrong", name := "of", desc := "(II)LWheelTables$Wrong;" } : Jvm.MethodName) ({ cls := "WheelTables$Wrong", name := "of", desc := "(II)LWheelTables$Wrong;" } : Jvm.MethodName)) ∈ lw_all := lw_g (lw_at lw_m4 63 rfl) rfl
theorem q878 : (Jvm.Cond.code ({ cls := "WheelTables$Wrong", name := "of", desc := "(II)LWheelTables$Wrong;" } : Jvm.MethodName) prog_7_method_2_code (3 : Nat) (Option.some (Jvm.ClassFile.FieldType.object "WheelTables$Wrong"))) ∈ lw_all := lw_g (lw_at lw_m4 64 rfl) rfl
theorem in_X1 : ∀ w ∈ wsX10, w ∈ lw_all := lw_in wsX10 [141, 143, 145, 147, 149, 214, 206, 208] (by decide +kernel) (by decide +kernel)
/-! WheelTables$Reader -/
set_option maxRecDepth 100000
def RX2 : String := "WheelTables$Reader"
def TX2 : u_T := fun k => match k with
  | 0 => ("WheelTables$Reader", "tape", "[B", true)
  | 1 => ("WheelTables$Reader", "taped", "I", false)
  | 2 => ("WheelTables$Reader", "size", "I", false)
  | 3 => ("WheelTables$Reader", "sort", "I", false)
  | 4 => ("WheelTables$Reader", "from", "I", false)
  | 5 => ("WheelTables$Reader", "end", "I", false)
  | 6 => ("WheelTables$Reader", "value", "J", false)
  | _ => ("WheelTables$Reader", "wrong", "LWheelTables$Wrong;", true)
def tyX2 : Nat → FieldType := fun k => match k with
  | 0 => .array .byte
  | 1 => .int
  | 2 => .int
  | 3 => .int
  | 4 => .int
  | 5 => .int
  | 6 => .long
  | _ => .object "WheelTables$Wrong"
abbrev wsX20 : List Cond := u_ws RX2 TX2 8
theorem nmX2 : ∀ a, a < 8 → ∀ b, b < 8 → a ≠ b → (TX2 a).2.1 ≠ (TX2 b).2.1 := by decide +kernel
theorem tyX2_ok : ∀ k, k < 8 → parseFieldDescriptor (TX2 k).2.2.1 = some (tyX2 k) := by decide +kernel
abbrev cX2_init : ByteArray := prog_5_method_1_code
def yX2_init : MethodName := ⟨RX2, "<init>", "(LWheelTables$Wrong;)V"⟩
def dkwX2_init_0 : List UInt8 := [42, 183, 0, 3, 42, 17, 1, 244, 188, 8, 181, 0, 9, 42, 43, 181, 0, 15, 177]
abbrev dktX2_init_0 : List UInt8 := dkwX2_init_0 ++ []
theorem dksX2_init_0 : cX2_init.data.toList.drop 0 = dktX2_init_0 := by decide +kernel
theorem dX2_init_0 : decode cX2_init 0 = .ok (.aload_n 0, 1) := dk_42 (dk_at dksX2_init_0 0 rfl rfl)
theorem dX2_init_1 : decode cX2_init 1 = .ok (.invokespecial 3, 3) := dk_183 0 3 (dk_at dksX2_init_0 1 rfl rfl)
theorem dX2_init_4 : decode cX2_init 4 = .ok (.aload_n 0, 1) := dk_42 (dk_at dksX2_init_0 4 rfl rfl)
theorem dX2_init_5 : decode cX2_init 5 = .ok (.sipush 500, 3) := dk_17 1 244 (dk_at dksX2_init_0 5 rfl rfl)
theorem dX2_init_8 : decode cX2_init 8 = .ok (.newarray .byte, 2) := dk_188_8 (dk_at dksX2_init_0 8 rfl rfl)
theorem dX2_init_10 : decode cX2_init 10 = .ok (.putfield 9, 3) := dk_181 0 9 (dk_at dksX2_init_0 10 rfl rfl)
theorem dX2_init_13 : decode cX2_init 13 = .ok (.aload_n 0, 1) := dk_42 (dk_at dksX2_init_0 13 rfl rfl)
theorem dX2_init_14 : decode cX2_init 14 = .ok (.aload_n 1, 1) := dk_43 (dk_at dksX2_init_0 14 rfl rfl)
theorem dX2_init_15 : decode cX2_init 15 = .ok (.putfield 15, 3) := dk_181 0 15 (dk_at dksX2_init_0 15 rfl rfl)
theorem dX2_init_18 : decode cX2_init 18 = .ok (.return_, 1) := dk_177 (dk_at dksX2_init_0 18 rfl rfl)
abbrev cX2_read : ByteArray := prog_5_method_12_code
def yX2_read : MethodName := ⟨RX2, "read", "(I[LWheelTables$Card;)I"⟩
def dkwX2_read_7 : List UInt8 := [132, 4, 1, 167, 255, 176, 29, 172]
abbrev dktX2_read_7 : List UInt8 := dkwX2_read_7 ++ []
def dkwX2_read_6 : List UInt8 := [21, 4, 133, 148, 158, 0, 19, 42, 180, 0, 15, 8, 44, 21, 4, 50, 180, 0, 108, 182, 0, 73, 191]
abbrev dktX2_read_6 : List UInt8 := dkwX2_read_6 ++ dktX2_read_7
def dkwX2_read_5 : List UInt8 := [133, 148, 157, 0, 29, 44, 21, 4, 50, 180, 0, 101, 16, 6, 160, 0, 33, 44, 21, 4, 50, 180, 0, 105]
abbrev dktX2_read_5 : List UInt8 := dkwX2_read_5 ++ dktX2_read_6
def dkwX2_read_4 : List UInt8 := [44, 21, 4, 50, 180, 0, 101, 16, 7, 160, 0, 20, 21, 4, 133, 44, 21, 4, 50, 180, 0, 105, 97, 29]
abbrev dktX2_read_4 : List UInt8 := dkwX2_read_4 ++ dktX2_read_5
def dkwX2_read_3 : List UInt8 := [16, 59, 182, 0, 99, 182, 0, 91, 42, 182, 0, 85, 167, 255, 190, 3, 54, 4, 21, 4, 29, 162, 0, 80]
abbrev dktX2_read_3 : List UInt8 := dkwX2_read_3 ++ dktX2_read_4
def dkwX2_read_2 : List UInt8 := [160, 0, 9, 42, 6, 182, 0, 79, 191, 44, 29, 42, 21, 4, 182, 0, 95, 83, 132, 3, 1, 42, 42]
abbrev dktX2_read_2 : List UInt8 := dkwX2_read_2 ++ dktX2_read_3
def dkwX2_read_1 : List UInt8 := [182, 0, 88, 54, 4, 42, 21, 4, 2, 159, 0, 7, 4, 167, 0, 4, 3, 182, 0, 91, 29, 16, 40]
abbrev dktX2_read_1 : List UInt8 := dkwX2_read_1 ++ dktX2_read_2
def dkwX2_read_0 : List UInt8 := [42, 27, 181, 0, 19, 42, 3, 181, 0, 23, 3, 62, 42, 182, 0, 85, 42, 180, 0, 37, 153, 0, 65, 42]
abbrev dktX2_read_0 : List UInt8 := dkwX2_read_0 ++ dktX2_read_1
theorem dksX2_read_0 : cX2_read.data.toList.drop 0 = dktX2_read_0 := by decide +kernel
theorem dksX2_read_1 : cX2_read.data.toList.drop 24 = dktX2_read_1 := dk_seg dksX2_read_0 24 rfl rfl
theorem dksX2_read_2 : cX2_read.data.toList.drop 47 = dktX2_read_2 := dk_seg dksX2_read_1 23 rfl rfl
theorem dksX2_read_3 : cX2_read.data.toList.drop 70 = dktX2_read_3 := dk_seg dksX2_read_2 23 rfl rfl
theorem dksX2_read_4 : cX2_read.data.toList.drop 94 = dktX2_read_4 := dk_seg dksX2_read_3 24 rfl rfl
theorem dksX2_read_5 : cX2_read.data.toList.drop 118 = dktX2_read_5 := dk_seg dksX2_read_4 24 rfl rfl
theorem dksX2_read_6 : cX2_read.data.toList.drop 142 = dktX2_read_6 := dk_seg dksX2_read_5 24 rfl rfl
theorem dksX2_read_7 : cX2_read.data.toList.drop 165 = dktX2_read_7 := dk_seg dksX2_read_6 23 rfl rfl
theorem dX2_read_0 : decode cX2_read 0 = .ok (.aload_n 0, 1) := dk_42 (dk_at dksX2_read_0 0 rfl rfl)
theorem dX2_read_1 : decode cX2_read 1 = .ok (.iload_n 1, 1) := dk_27 (dk_at dksX2_read_0 1 rfl rfl)
theorem dX2_read_2 : decode cX2_read 2 = .ok (.putfield 19, 3) := dk_181 0 19 (dk_at dksX2_read_0 2 rfl rfl)
theorem dX2_read_5 : decode cX2_read 5 = .ok (.aload_n 0, 1) := dk_42 (dk_at dksX2_read_0 5 rfl rfl)
theorem dX2_read_6 : decode cX2_read 6 = .ok (.iconst 0, 1) := dk_3 (dk_at dksX2_read_0 6 rfl rfl)
theorem dX2_read_7 : decode cX2_read 7 = .ok (.putfield 23, 3) := dk_181 0 23 (dk_at dksX2_read_0 7 rfl rfl)
theorem dX2_read_10 : decode cX2_read 10 = .ok (.iconst 0, 1) := dk_3 (dk_at dksX2_read_0 10 rfl rfl)
theorem dX2_read_11 : decode cX2_read 11 = .ok (.istore_n 3, 1) := dk_62 (dk_at dksX2_read_0 11 rfl rfl)
theorem dX2_read_12 : decode cX2_read 12 = .ok (.aload_n 0, 1) := dk_42 (dk_at dksX2_read_0 12 rfl rfl)
theorem dX2_read_13 : decode cX2_read 13 = .ok (.invokevirtual 85, 3) := dk_182 0 85 (dk_at dksX2_read_0 13 rfl rfl)
theorem dX2_read_16 : decode cX2_read 16 = .ok (.aload_n 0, 1) := dk_42 (dk_at dksX2_read_0 16 rfl rfl)
theorem dX2_read_17 : decode cX2_read 17 = .ok (.getfield 37, 3) := dk_180 0 37 (dk_at dksX2_read_0 17 rfl rfl)
theorem dX2_read_20 : decode cX2_read 20 = .ok (.ifCond .eq 65, 3) := dk_153 0 65 (dk_at dksX2_read_0 20 rfl rfl)
theorem dX2_read_23 : decode cX2_read 23 = .ok (.aload_n 0, 1) := dk_42 (dk_at dksX2_read_0 23 rfl rfl)
theorem dX2_read_24 : decode cX2_read 24 = .ok (.invokevirtual 88, 3) := dk_182 0 88 (dk_at dksX2_read_1 0 rfl rfl)
theorem dX2_read_27 : decode cX2_read 27 = .ok (.istore 4, 2) := dk_54 4 (dk_at dksX2_read_1 3 rfl rfl)
theorem dX2_read_29 : decode cX2_read 29 = .ok (.aload_n 0, 1) := dk_42 (dk_at dksX2_read_1 5 rfl rfl)
theorem dX2_read_30 : decode cX2_read 30 = .ok (.iload 4, 2) := dk_21 4 (dk_at dksX2_read_1 6 rfl rfl)
theorem dX2_read_32 : decode cX2_read 32 = .ok (.iconst (-1), 1) := dk_2 (dk_at dksX2_read_1 8 rfl rfl)
theorem dX2_read_33 : decode cX2_read 33 = .ok (.if_icmp .eq 7, 3) := dk_159 0 7 (dk_at dksX2_read_1 9 rfl rfl)
theorem dX2_read_36 : decode cX2_read 36 = .ok (.iconst 1, 1) := dk_4 (dk_at dksX2_read_1 12 rfl rfl)
theorem dX2_read_37 : decode cX2_read 37 = .ok (.goto 4, 3) := dk_167 0 4 (dk_at dksX2_read_1 13 rfl rfl)
theorem dX2_read_40 : decode cX2_read 40 = .ok (.iconst 0, 1) := dk_3 (dk_at dksX2_read_1 16 rfl rfl)
theorem dX2_read_41 : decode cX2_read 41 = .ok (.invokevirtual 91, 3) := dk_182 0 91 (dk_at dksX2_read_1 17 rfl rfl)
theorem dX2_read_44 : decode cX2_read 44 = .ok (.iload_n 3, 1) := dk_29 (dk_at dksX2_read_1 20 rfl rfl)
theorem dX2_read_45 : decode cX2_read 45 = .ok (.bipush 40, 2) := dk_16 40 (dk_at dksX2_read_1 21 rfl rfl)
theorem dX2_read_47 : decode cX2_read 47 = .ok (.if_icmp .ne 9, 3) := dk_160 0 9 (dk_at dksX2_read_2 0 rfl rfl)
theorem dX2_read_50 : decode cX2_read 50 = .ok (.aload_n 0, 1) := dk_42 (dk_at dksX2_read_2 3 rfl rfl)
theorem dX2_read_51 : decode cX2_read 51 = .ok (.iconst 3, 1) := dk_6 (dk_at dksX2_read_2 4 rfl rfl)
theorem dX2_read_52 : decode cX2_read 52 = .ok (.invokevirtual 79, 3) := dk_182 0 79 (dk_at dksX2_read_2 5 rfl rfl)
theorem dX2_read_55 : decode cX2_read 55 = .ok (.athrow, 1) := dk_191 (dk_at dksX2_read_2 8 rfl rfl)
theorem dX2_read_56 : decode cX2_read 56 = .ok (.aload_n 2, 1) := dk_44 (dk_at dksX2_read_2 9 rfl rfl)
theorem dX2_read_57 : decode cX2_read 57 = .ok (.iload_n 3, 1) := dk_29 (dk_at dksX2_read_2 10 rfl rfl)
theorem dX2_read_58 : decode cX2_read 58 = .ok (.aload_n 0, 1) := dk_42 (dk_at dksX2_read_2 11 rfl rfl)
theorem dX2_read_59 : decode cX2_read 59 = .ok (.iload 4, 2) := dk_21 4 (dk_at dksX2_read_2 12 rfl rfl)
theorem dX2_read_61 : decode cX2_read 61 = .ok (.invokevirtual 95, 3) := dk_182 0 95 (dk_at dksX2_read_2 14 rfl rfl)
theorem dX2_read_64 : decode cX2_read 64 = .ok (.aastore, 1) := dk_83 (dk_at dksX2_read_2 17 rfl rfl)
theorem dX2_read_65 : decode cX2_read 65 = .ok (.iinc 3 1, 3) := dk_132 3 1 (dk_at dksX2_read_2 18 rfl rfl)
theorem dX2_read_68 : decode cX2_read 68 = .ok (.aload_n 0, 1) := dk_42 (dk_at dksX2_read_2 21 rfl rfl)
theorem dX2_read_69 : decode cX2_read 69 = .ok (.aload_n 0, 1) := dk_42 (dk_at dksX2_read_2 22 rfl rfl)
theorem dX2_read_70 : decode cX2_read 70 = .ok (.bipush 59, 2) := dk_16 59 (dk_at dksX2_read_3 0 rfl rfl)
theorem dX2_read_72 : decode cX2_read 72 = .ok (.invokevirtual 99, 3) := dk_182 0 99 (dk_at dksX2_read_3 2 rfl rfl)
theorem dX2_read_75 : decode cX2_read 75 = .ok (.invokevirtual 91, 3) := dk_182 0 91 (dk_at dksX2_read_3 5 rfl rfl)
theorem dX2_read_78 : decode cX2_read 78 = .ok (.aload_n 0, 1) := dk_42 (dk_at dksX2_read_3 8 rfl rfl)
theorem dX2_read_79 : decode cX2_read 79 = .ok (.invokevirtual 85, 3) := dk_182 0 85 (dk_at dksX2_read_3 9 rfl rfl)
theorem dX2_read_82 : decode cX2_read 82 = .ok (.goto (-66), 3) := dk_167 255 190 (dk_at dksX2_read_3 12 rfl rfl)
theorem dX2_read_85 : decode cX2_read 85 = .ok (.iconst 0, 1) := dk_3 (dk_at dksX2_read_3 15 rfl rfl)
theorem dX2_read_86 : decode cX2_read 86 = .ok (.istore 4, 2) := dk_54 4 (dk_at dksX2_read_3 16 rfl rfl)
theorem dX2_read_88 : decode cX2_read 88 = .ok (.iload 4, 2) := dk_21 4 (dk_at dksX2_read_3 18 rfl rfl)
theorem dX2_read_90 : decode cX2_read 90 = .ok (.iload_n 3, 1) := dk_29 (dk_at dksX2_read_3 20 rfl rfl)
theorem dX2_read_91 : decode cX2_read 91 = .ok (.if_icmp .ge 80, 3) := dk_162 0 80 (dk_at dksX2_read_3 21 rfl rfl)
theorem dX2_read_94 : decode cX2_read 94 = .ok (.aload_n 2, 1) := dk_44 (dk_at dksX2_read_4 0 rfl rfl)
theorem dX2_read_95 : decode cX2_read 95 = .ok (.iload 4, 2) := dk_21 4 (dk_at dksX2_read_4 1 rfl rfl)
theorem dX2_read_97 : decode cX2_read 97 = .ok (.aaload, 1) := dk_50 (dk_at dksX2_read_4 3 rfl rfl)
theorem dX2_read_98 : decode cX2_read 98 = .ok (.getfield 101, 3) := dk_180 0 101 (dk_at dksX2_read_4 4 rfl rfl)
theorem dX2_read_101 : decode cX2_read 101 = .ok (.bipush 7, 2) := dk_16 7 (dk_at dksX2_read_4 7 rfl rfl)
theorem dX2_read_103 : decode cX2_read 103 = .ok (.if_icmp .ne 20, 3) := dk_160 0 20 (dk_at dksX2_read_4 9 rfl rfl)
theorem dX2_read_106 : decode cX2_read 106 = .ok (.iload 4, 2) := dk_21 4 (dk_at dksX2_read_4 12 rfl rfl)
theorem dX2_read_108 : decode cX2_read 108 = .ok (.i2l, 1) := dk_133 (dk_at dksX2_read_4 14 rfl rfl)
theorem dX2_read_109 : decode cX2_read 109 = .ok (.aload_n 2, 1) := dk_44 (dk_at dksX2_read_4 15 rfl rfl)
theorem dX2_read_110 : decode cX2_read 110 = .ok (.iload 4, 2) := dk_21 4 (dk_at dksX2_read_4 16 rfl rfl)
theorem dX2_read_112 : decode cX2_read 112 = .ok (.aaload, 1) := dk_50 (dk_at dksX2_read_4 18 rfl rfl)
theorem dX2_read_113 : decode cX2_read 113 = .ok (.getfield 105, 3) := dk_180 0 105 (dk_at dksX2_read_4 19 rfl rfl)
theorem dX2_read_116 : decode cX2_read 116 = .ok (.ladd, 1) := dk_97 (dk_at dksX2_read_4 22 rfl rfl)
theorem dX2_read_117 : decode cX2_read 117 = .ok (.iload_n 3, 1) := dk_29 (dk_at dksX2_read_4 23 rfl rfl)
theorem dX2_read_118 : decode cX2_read 118 = .ok (.i2l, 1) := dk_133 (dk_at dksX2_read_5 0 rfl rfl)
theorem dX2_read_119 : decode cX2_read 119 = .ok (.lcmp, 1) := dk_148 (dk_at dksX2_read_5 1 rfl rfl)
theorem dX2_read_120 : decode cX2_read 120 = .ok (.ifCond .gt 29, 3) := dk_157 0 29 (dk_at dksX2_read_5 2 rfl rfl)
theorem dX2_read_123 : decode cX2_read 123 = .ok (.aload_n 2, 1) := dk_44 (dk_at dksX2_read_5 5 rfl rfl)
theorem dX2_read_124 : decode cX2_read 124 = .ok (.iload 4, 2) := dk_21 4 (dk_at dksX2_read_5 6 rfl rfl)
theorem dX2_read_126 : decode cX2_read 126 = .ok (.aaload, 1) := dk_50 (dk_at dksX2_read_5 8 rfl rfl)
theorem dX2_read_127 : decode cX2_read 127 = .ok (.getfield 101, 3) := dk_180 0 101 (dk_at dksX2_read_5 9 rfl rfl)
theorem dX2_read_130 : decode cX2_read 130 = .ok (.bipush 6, 2) := dk_16 6 (dk_at dksX2_read_5 12 rfl rfl)
theorem dX2_read_132 : decode cX2_read 132 = .ok (.if_icmp .ne 33, 3) := dk_160 0 33 (dk_at dksX2_read_5 14 rfl rfl)
theorem dX2_read_135 : decode cX2_read 135 = .ok (.aload_n 2, 1) := dk_44 (dk_at dksX2_read_5 17 rfl rfl)
theorem dX2_read_136 : decode cX2_read 136 = .ok (.iload 4, 2) := dk_21 4 (dk_at dksX2_read_5 18 rfl rfl)
theorem dX2_read_138 : decode cX2_read 138 = .ok (.aaload, 1) := dk_50 (dk_at dksX2_read_5 20 rfl rfl)
theorem dX2_read_139 : decode cX2_read 139 = .ok (.getfield 105, 3) := dk_180 0 105 (dk_at dksX2_read_5 21 rfl rfl)
theorem dX2_read_142 : decode cX2_read 142 = .ok (.iload 4, 2) := dk_21 4 (dk_at dksX2_read_6 0 rfl rfl)
theorem dX2_read_144 : decode cX2_read 144 = .ok (.i2l, 1) := dk_133 (dk_at dksX2_read_6 2 rfl rfl)
theorem dX2_read_145 : decode cX2_read 145 = .ok (.lcmp, 1) := dk_148 (dk_at dksX2_read_6 3 rfl rfl)
theorem dX2_read_146 : decode cX2_read 146 = .ok (.ifCond .le 19, 3) := dk_158 0 19 (dk_at dksX2_read_6 4 rfl rfl)
theorem dX2_read_149 : decode cX2_read 149 = .ok (.aload_n 0, 1) := dk_42 (dk_at dksX2_read_6 7 rfl rfl)
theorem dX2_read_150 : decode cX2_read 150 = .ok (.getfield 15, 3) := dk_180 0 15 (dk_at dksX2_read_6 8 rfl rfl)
theorem dX2_read_153 : decode cX2_read 153 = .ok (.iconst 5, 1) := dk_8 (dk_at dksX2_read_6 11 rfl rfl)
theorem dX2_read_154 : decode cX2_read 154 = .ok (.aload_n 2, 1) := dk_44 (dk_at dksX2_read_6 12 rfl rfl)
theorem dX2_read_155 : decode cX2_read 155 = .ok (.iload 4, 2) := dk_21 4 (dk_at dksX2_read_6 13 rfl rfl)
theorem dX2_read_157 : decode cX2_read 157 = .ok (.aaload, 1) := dk_50 (dk_at dksX2_read_6 15 rfl rfl)
theorem dX2_read_158 : decode cX2_read 158 = .ok (.getfield 108, 3) := dk_180 0 108 (dk_at dksX2_read_6 16 rfl rfl)
theorem dX2_read_161 : decode cX2_read 161 = .ok (.invokevirtual 73, 3) := dk_182 0 73 (dk_at dksX2_read_6 19 rfl rfl)
theorem dX2_read_164 : decode cX2_read 164 = .ok (.athrow, 1) := dk_191 (dk_at dksX2_read_6 22 rfl rfl)
theorem dX2_read_165 : decode cX2_read 165 = .ok (.iinc 4 1, 3) := dk_132 4 1 (dk_at dksX2_read_7 0 rfl rfl)
theorem dX2_read_168 : decode cX2_read 168 = .ok (.goto (-80), 3) := dk_167 255 176 (dk_at dksX2_read_7 3 rfl rfl)
theorem dX2_read_171 : decode cX2_read 171 = .ok (.iload_n 3, 1) := dk_29 (dk_at dksX2_read_7 6 rfl rfl)
theorem dX2_read_172 : decode cX2_read 172 = .ok (.ireturn, 1) := dk_172 (dk_at dksX2_read_7 7 rfl rfl)
abbrev cX2_next : ByteArray := prog_5_method_5_code
def yX2_next : MethodName := ⟨RX2, "next", "()V"⟩
def dkwX2_next_10 : List UInt8 := [160, 0, 7, 7, 167, 0, 4, 4, 181, 0, 37, 177]
abbrev dktX2_next_10 : List UInt8 := dkwX2_next_10 ++ []
def dkwX2_next_9 : List UInt8 := [167, 0, 34, 42, 89, 180, 0, 23, 4, 96, 181, 0, 23, 42, 27, 16, 59, 159, 0, 9, 27, 16, 45]
abbrev dktX2_next_9 : List UInt8 := dkwX2_next_9 ++ dktX2_next_10
def dkwX2_next_8 : List UInt8 := [42, 42, 180, 0, 23, 42, 180, 0, 30, 100, 16, 12, 164, 0, 7, 4, 167, 0, 4, 6, 181, 0, 37]
abbrev dktX2_next_8 : List UInt8 := dkwX2_next_8 ++ dktX2_next_9
def dkwX2_next_7 : List UInt8 := [97, 20, 0, 51, 101, 184, 0, 53, 181, 0, 33, 42, 89, 180, 0, 23, 4, 96, 181, 0, 23, 167, 255, 200]
abbrev dktX2_next_7 : List UInt8 := dkwX2_next_7 ++ dktX2_next_8
def dkwX2_next_6 : List UInt8 := [153, 0, 48, 42, 20, 0, 47, 20, 0, 49, 42, 180, 0, 33, 105, 42, 42, 180, 0, 23, 182, 0, 26, 133]
abbrev dktX2_next_6 : List UInt8 := dkwX2_next_6 ++ dktX2_next_7
def dkwX2_next_5 : List UInt8 := [27, 184, 0, 44, 153, 0, 93, 42, 9, 181, 0, 33, 42, 42, 180, 0, 23, 182, 0, 26, 184, 0, 44]
abbrev dktX2_next_5 : List UInt8 := dkwX2_next_5 ++ dktX2_next_6
def dkwX2_next_4 : List UInt8 := [153, 0, 16, 42, 89, 180, 0, 23, 4, 96, 181, 0, 23, 167, 255, 232, 42, 5, 181, 0, 37, 167, 0, 131]
abbrev dktX2_next_4 : List UInt8 := dkwX2_next_4 ++ dktX2_next_5
def dkwX2_next_3 : List UInt8 := [181, 0, 37, 167, 0, 173, 27, 184, 0, 40, 153, 0, 38, 42, 42, 180, 0, 23, 182, 0, 26, 184, 0, 40]
abbrev dktX2_next_3 : List UInt8 := dkwX2_next_3 ++ dktX2_next_4
def dkwX2_next_2 : List UInt8 := [42, 42, 180, 0, 23, 182, 0, 26, 60, 42, 27, 133, 181, 0, 33, 27, 2, 160, 0, 11, 42, 3]
abbrev dktX2_next_2 : List UInt8 := dkwX2_next_2 ++ dktX2_next_3
def dkwX2_next_1 : List UInt8 := [160, 0, 16, 42, 89, 180, 0, 23, 4, 96, 181, 0, 23, 167, 255, 220, 42, 42, 180, 0, 23, 181, 0, 30]
abbrev dktX2_next_1 : List UInt8 := dkwX2_next_1 ++ dktX2_next_2
def dkwX2_next_0 : List UInt8 := [42, 42, 180, 0, 23, 182, 0, 26, 16, 32, 159, 0, 16, 42, 42, 180, 0, 23, 182, 0, 26, 16, 10]
abbrev dktX2_next_0 : List UInt8 := dkwX2_next_0 ++ dktX2_next_1
theorem dksX2_next_0 : cX2_next.data.toList.drop 0 = dktX2_next_0 := by decide +kernel
theorem dksX2_next_1 : cX2_next.data.toList.drop 23 = dktX2_next_1 := dk_seg dksX2_next_0 23 rfl rfl
theorem dksX2_next_2 : cX2_next.data.toList.drop 47 = dktX2_next_2 := dk_seg dksX2_next_1 24 rfl rfl
theorem dksX2_next_3 : cX2_next.data.toList.drop 69 = dktX2_next_3 := dk_seg dksX2_next_2 22 rfl rfl
theorem dksX2_next_4 : cX2_next.data.toList.drop 93 = dktX2_next_4 := dk_seg dksX2_next_3 24 rfl rfl
theorem dksX2_next_5 : cX2_next.data.toList.drop 117 = dktX2_next_5 := dk_seg dksX2_next_4 24 rfl rfl
theorem dksX2_next_6 : cX2_next.data.toList.drop 140 = dktX2_next_6 := dk_seg dksX2_next_5 23 rfl rfl
theorem dksX2_next_7 : cX2_next.data.toList.drop 164 = dktX2_next_7 := dk_seg dksX2_next_6 24 rfl rfl
theorem dksX2_next_8 : cX2_next.data.toList.drop 188 = dktX2_next_8 := dk_seg dksX2_next_7 24 rfl rfl
theorem dksX2_next_9 : cX2_next.data.toList.drop 211 = dktX2_next_9 := dk_seg dksX2_next_8 23 rfl rfl
theorem dksX2_next_10 : cX2_next.data.toList.drop 234 = dktX2_next_10 := dk_seg dksX2_next_9 23 rfl rfl
theorem dX2_next_0 : decode cX2_next 0 = .ok (.aload_n 0, 1) := dk_42 (dk_at dksX2_next_0 0 rfl rfl)
theorem dX2_next_1 : decode cX2_next 1 = .ok (.aload_n 0, 1) := dk_42 (dk_at dksX2_next_0 1 rfl rfl)
theorem dX2_next_2 : decode cX2_next 2 = .ok (.getfield 23, 3) := dk_180 0 23 (dk_at dksX2_next_0 2 rfl rfl)
theorem dX2_next_5 : decode cX2_next 5 = .ok (.invokevirtual 26, 3) := dk_182 0 26 (dk_at dksX2_next_0 5 rfl rfl)
theorem dX2_next_8 : decode cX2_next 8 = .ok (.bipush 32, 2) := dk_16 32 (dk_at dksX2_next_0 8 rfl rfl)
theorem dX2_next_10 : decode cX2_next 10 = .ok (.if_icmp .eq 16, 3) := dk_159 0 16 (dk_at dksX2_next_0 10 rfl rfl)
theorem dX2_next_13 : decode cX2_next 13 = .ok (.aload_n 0, 1) := dk_42 (dk_at dksX2_next_0 13 rfl rfl)
theorem dX2_next_14 : decode cX2_next 14 = .ok (.aload_n 0, 1) := dk_42 (dk_at dksX2_next_0 14 rfl rfl)
theorem dX2_next_15 : decode cX2_next 15 = .ok (.getfield 23, 3) := dk_180 0 23 (dk_at dksX2_next_0 15 rfl rfl)
theorem dX2_next_18 : decode cX2_next 18 = .ok (.invokevirtual 26, 3) := dk_182 0 26 (dk_at dksX2_next_0 18 rfl rfl)
theorem dX2_next_21 : decode cX2_next 21 = .ok (.bipush 10, 2) := dk_16 10 (dk_at dksX2_next_0 21 rfl rfl)
theorem dX2_next_23 : decode cX2_next 23 = .ok (.if_icmp .ne 16, 3) := dk_160 0 16 (dk_at dksX2_next_1 0 rfl rfl)
theorem dX2_next_26 : decode cX2_next 26 = .ok (.aload_n 0, 1) := dk_42 (dk_at dksX2_next_1 3 rfl rfl)
theorem dX2_next_27 : decode cX2_next 27 = .ok (.dup, 1) := dk_89 (dk_at dksX2_next_1 4 rfl rfl)
theorem dX2_next_28 : decode cX2_next 28 = .ok (.getfield 23, 3) := dk_180 0 23 (dk_at dksX2_next_1 5 rfl rfl)
theorem dX2_next_31 : decode cX2_next 31 = .ok (.iconst 1, 1) := dk_4 (dk_at dksX2_next_1 8 rfl rfl)
theorem dX2_next_32 : decode cX2_next 32 = .ok (.iadd, 1) := dk_96 (dk_at dksX2_next_1 9 rfl rfl)
theorem dX2_next_33 : decode cX2_next 33 = .ok (.putfield 23, 3) := dk_181 0 23 (dk_at dksX2_next_1 10 rfl rfl)
theorem dX2_next_36 : decode cX2_next 36 = .ok (.goto (-36), 3) := dk_167 255 220 (dk_at dksX2_next_1 13 rfl rfl)
theorem dX2_next_39 : decode cX2_next 39 = .ok (.aload_n 0, 1) := dk_42 (dk_at dksX2_next_1 16 rfl rfl)
theorem dX2_next_40 : decode cX2_next 40 = .ok (.aload_n 0, 1) := dk_42 (dk_at dksX2_next_1 17 rfl rfl)
theorem dX2_next_41 : decode cX2_next 41 = .ok (.getfield 23, 3) := dk_180 0 23 (dk_at dksX2_next_1 18 rfl rfl)
theorem dX2_next_44 : decode cX2_next 44 = .ok (.putfield 30, 3) := dk_181 0 30 (dk_at dksX2_next_1 21 rfl rfl)
theorem dX2_next_47 : decode cX2_next 47 = .ok (.aload_n 0, 1) := dk_42 (dk_at dksX2_next_2 0 rfl rfl)
theorem dX2_next_48 : decode cX2_next 48 = .ok (.aload_n 0, 1) := dk_42 (dk_at dksX2_next_2 1 rfl rfl)
theorem dX2_next_49 : decode cX2_next 49 = .ok (.getfield 23, 3) := dk_180 0 23 (dk_at dksX2_next_2 2 rfl rfl)
theorem dX2_next_52 : decode cX2_next 52 = .ok (.invokevirtual 26, 3) := dk_182 0 26 (dk_at dksX2_next_2 5 rfl rfl)
theorem dX2_next_55 : decode cX2_next 55 = .ok (.istore_n 1, 1) := dk_60 (dk_at dksX2_next_2 8 rfl rfl)
theorem dX2_next_56 : decode cX2_next 56 = .ok (.aload_n 0, 1) := dk_42 (dk_at dksX2_next_2 9 rfl rfl)
theorem dX2_next_57 : decode cX2_next 57 = .ok (.iload_n 1, 1) := dk_27 (dk_at dksX2_next_2 10 rfl rfl)
theorem dX2_next_58 : decode cX2_next 58 = .ok (.i2l, 1) := dk_133 (dk_at dksX2_next_2 11 rfl rfl)
theorem dX2_next_59 : decode cX2_next 59 = .ok (.putfield 33, 3) := dk_181 0 33 (dk_at dksX2_next_2 12 rfl rfl)
theorem dX2_next_62 : decode cX2_next 62 = .ok (.iload_n 1, 1) := dk_27 (dk_at dksX2_next_2 15 rfl rfl)
theorem dX2_next_63 : decode cX2_next 63 = .ok (.iconst (-1), 1) := dk_2 (dk_at dksX2_next_2 16 rfl rfl)
theorem dX2_next_64 : decode cX2_next 64 = .ok (.if_icmp .ne 11, 3) := dk_160 0 11 (dk_at dksX2_next_2 17 rfl rfl)
theorem dX2_next_67 : decode cX2_next 67 = .ok (.aload_n 0, 1) := dk_42 (dk_at dksX2_next_2 20 rfl rfl)
theorem dX2_next_68 : decode cX2_next 68 = .ok (.iconst 0, 1) := dk_3 (dk_at dksX2_next_2 21 rfl rfl)
theorem dX2_next_69 : decode cX2_next 69 = .ok (.putfield 37, 3) := dk_181 0 37 (dk_at dksX2_next_3 0 rfl rfl)
theorem dX2_next_72 : decode cX2_next 72 = .ok (.goto 173, 3) := dk_167 0 173 (dk_at dksX2_next_3 3 rfl rfl)
theorem dX2_next_75 : decode cX2_next 75 = .ok (.iload_n 1, 1) := dk_27 (dk_at dksX2_next_3 6 rfl rfl)
theorem dX2_next_76 : decode cX2_next 76 = .ok (.invokestatic 40, 3) := dk_184 0 40 (dk_at dksX2_next_3 7 rfl rfl)
theorem dX2_next_79 : decode cX2_next 79 = .ok (.ifCond .eq 38, 3) := dk_153 0 38 (dk_at dksX2_next_3 10 rfl rfl)
theorem dX2_next_82 : decode cX2_next 82 = .ok (.aload_n 0, 1) := dk_42 (dk_at dksX2_next_3 13 rfl rfl)
theorem dX2_next_83 : decode cX2_next 83 = .ok (.aload_n 0, 1) := dk_42 (dk_at dksX2_next_3 14 rfl rfl)
theorem dX2_next_84 : decode cX2_next 84 = .ok (.getfield 23, 3) := dk_180 0 23 (dk_at dksX2_next_3 15 rfl rfl)
theorem dX2_next_87 : decode cX2_next 87 = .ok (.invokevirtual 26, 3) := dk_182 0 26 (dk_at dksX2_next_3 18 rfl rfl)
theorem dX2_next_90 : decode cX2_next 90 = .ok (.invokestatic 40, 3) := dk_184 0 40 (dk_at dksX2_next_3 21 rfl rfl)
theorem dX2_next_93 : decode cX2_next 93 = .ok (.ifCond .eq 16, 3) := dk_153 0 16 (dk_at dksX2_next_4 0 rfl rfl)
theorem dX2_next_96 : decode cX2_next 96 = .ok (.aload_n 0, 1) := dk_42 (dk_at dksX2_next_4 3 rfl rfl)
theorem dX2_next_97 : decode cX2_next 97 = .ok (.dup, 1) := dk_89 (dk_at dksX2_next_4 4 rfl rfl)
theorem dX2_next_98 : decode cX2_next 98 = .ok (.getfield 23, 3) := dk_180 0 23 (dk_at dksX2_next_4 5 rfl rfl)
theorem dX2_next_101 : decode cX2_next 101 = .ok (.iconst 1, 1) := dk_4 (dk_at dksX2_next_4 8 rfl rfl)
theorem dX2_next_102 : decode cX2_next 102 = .ok (.iadd, 1) := dk_96 (dk_at dksX2_next_4 9 rfl rfl)
theorem dX2_next_103 : decode cX2_next 103 = .ok (.putfield 23, 3) := dk_181 0 23 (dk_at dksX2_next_4 10 rfl rfl)
theorem dX2_next_106 : decode cX2_next 106 = .ok (.goto (-24), 3) := dk_167 255 232 (dk_at dksX2_next_4 13 rfl rfl)
theorem dX2_next_109 : decode cX2_next 109 = .ok (.aload_n 0, 1) := dk_42 (dk_at dksX2_next_4 16 rfl rfl)
theorem dX2_next_110 : decode cX2_next 110 = .ok (.iconst 2, 1) := dk_5 (dk_at dksX2_next_4 17 rfl rfl)
theorem dX2_next_111 : decode cX2_next 111 = .ok (.putfield 37, 3) := dk_181 0 37 (dk_at dksX2_next_4 18 rfl rfl)
theorem dX2_next_114 : decode cX2_next 114 = .ok (.goto 131, 3) := dk_167 0 131 (dk_at dksX2_next_4 21 rfl rfl)
theorem dX2_next_117 : decode cX2_next 117 = .ok (.iload_n 1, 1) := dk_27 (dk_at dksX2_next_5 0 rfl rfl)
theorem dX2_next_118 : decode cX2_next 118 = .ok (.invokestatic 44, 3) := dk_184 0 44 (dk_at dksX2_next_5 1 rfl rfl)
theorem dX2_next_121 : decode cX2_next 121 = .ok (.ifCond .eq 93, 3) := dk_153 0 93 (dk_at dksX2_next_5 4 rfl rfl)
theorem dX2_next_124 : decode cX2_next 124 = .ok (.aload_n 0, 1) := dk_42 (dk_at dksX2_next_5 7 rfl rfl)
theorem dX2_next_125 : decode cX2_next 125 = .ok (.lconst 0, 1) := dk_9 (dk_at dksX2_next_5 8 rfl rfl)
theorem dX2_next_126 : decode cX2_next 126 = .ok (.putfield 33, 3) := dk_181 0 33 (dk_at dksX2_next_5 9 rfl rfl)
theorem dX2_next_129 : decode cX2_next 129 = .ok (.aload_n 0, 1) := dk_42 (dk_at dksX2_next_5 12 rfl rfl)
theorem dX2_next_130 : decode cX2_next 130 = .ok (.aload_n 0, 1) := dk_42 (dk_at dksX2_next_5 13 rfl rfl)
theorem dX2_next_131 : decode cX2_next 131 = .ok (.getfield 23, 3) := dk_180 0 23 (dk_at dksX2_next_5 14 rfl rfl)
theorem dX2_next_134 : decode cX2_next 134 = .ok (.invokevirtual 26, 3) := dk_182 0 26 (dk_at dksX2_next_5 17 rfl rfl)
theorem dX2_next_137 : decode cX2_next 137 = .ok (.invokestatic 44, 3) := dk_184 0 44 (dk_at dksX2_next_5 20 rfl rfl)
theorem dX2_next_140 : decode cX2_next 140 = .ok (.ifCond .eq 48, 3) := dk_153 0 48 (dk_at dksX2_next_6 0 rfl rfl)
theorem dX2_next_143 : decode cX2_next 143 = .ok (.aload_n 0, 1) := dk_42 (dk_at dksX2_next_6 3 rfl rfl)
theorem dX2_next_144 : decode cX2_next 144 = .ok (.ldc2_w 47, 3) := dk_20 0 47 (dk_at dksX2_next_6 4 rfl rfl)
theorem dX2_next_147 : decode cX2_next 147 = .ok (.ldc2_w 49, 3) := dk_20 0 49 (dk_at dksX2_next_6 7 rfl rfl)
theorem dX2_next_150 : decode cX2_next 150 = .ok (.aload_n 0, 1) := dk_42 (dk_at dksX2_next_6 10 rfl rfl)
theorem dX2_next_151 : decode cX2_next 151 = .ok (.getfield 33, 3) := dk_180 0 33 (dk_at dksX2_next_6 11 rfl rfl)
theorem dX2_next_154 : decode cX2_next 154 = .ok (.lmul, 1) := dk_105 (dk_at dksX2_next_6 14 rfl rfl)
theorem dX2_next_155 : decode cX2_next 155 = .ok (.aload_n 0, 1) := dk_42 (dk_at dksX2_next_6 15 rfl rfl)
theorem dX2_next_156 : decode cX2_next 156 = .ok (.aload_n 0, 1) := dk_42 (dk_at dksX2_next_6 16 rfl rfl)
theorem dX2_next_157 : decode cX2_next 157 = .ok (.getfield 23, 3) := dk_180 0 23 (dk_at dksX2_next_6 17 rfl rfl)
theorem dX2_next_160 : decode cX2_next 160 = .ok (.invokevirtual 26, 3) := dk_182 0 26 (dk_at dksX2_next_6 20 rfl rfl)
theorem dX2_next_163 : decode cX2_next 163 = .ok (.i2l, 1) := dk_133 (dk_at dksX2_next_6 23 rfl rfl)
theorem dX2_next_164 : decode cX2_next 164 = .ok (.ladd, 1) := dk_97 (dk_at dksX2_next_7 0 rfl rfl)
theorem dX2_next_165 : decode cX2_next 165 = .ok (.ldc2_w 51, 3) := dk_20 0 51 (dk_at dksX2_next_7 1 rfl rfl)
theorem dX2_next_168 : decode cX2_next 168 = .ok (.lsub, 1) := dk_101 (dk_at dksX2_next_7 4 rfl rfl)
theorem dX2_next_169 : decode cX2_next 169 = .ok (.invokestatic 53, 3) := dk_184 0 53 (dk_at dksX2_next_7 5 rfl rfl)
theorem dX2_next_172 : decode cX2_next 172 = .ok (.putfield 33, 3) := dk_181 0 33 (dk_at dksX2_next_7 8 rfl rfl)
theorem dX2_next_175 : decode cX2_next 175 = .ok (.aload_n 0, 1) := dk_42 (dk_at dksX2_next_7 11 rfl rfl)
theorem dX2_next_176 : decode cX2_next 176 = .ok (.dup, 1) := dk_89 (dk_at dksX2_next_7 12 rfl rfl)
theorem dX2_next_177 : decode cX2_next 177 = .ok (.getfield 23, 3) := dk_180 0 23 (dk_at dksX2_next_7 13 rfl rfl)
theorem dX2_next_180 : decode cX2_next 180 = .ok (.iconst 1, 1) := dk_4 (dk_at dksX2_next_7 16 rfl rfl)
theorem dX2_next_181 : decode cX2_next 181 = .ok (.iadd, 1) := dk_96 (dk_at dksX2_next_7 17 rfl rfl)
theorem dX2_next_182 : decode cX2_next 182 = .ok (.putfield 23, 3) := dk_181 0 23 (dk_at dksX2_next_7 18 rfl rfl)
theorem dX2_next_185 : decode cX2_next 185 = .ok (.goto (-56), 3) := dk_167 255 200 (dk_at dksX2_next_7 21 rfl rfl)
theorem dX2_next_188 : decode cX2_next 188 = .ok (.aload_n 0, 1) := dk_42 (dk_at dksX2_next_8 0 rfl rfl)
theorem dX2_next_189 : decode cX2_next 189 = .ok (.aload_n 0, 1) := dk_42 (dk_at dksX2_next_8 1 rfl rfl)
theorem dX2_next_190 : decode cX2_next 190 = .ok (.getfield 23, 3) := dk_180 0 23 (dk_at dksX2_next_8 2 rfl rfl)
theorem dX2_next_193 : decode cX2_next 193 = .ok (.aload_n 0, 1) := dk_42 (dk_at dksX2_next_8 5 rfl rfl)
theorem dX2_next_194 : decode cX2_next 194 = .ok (.getfield 30, 3) := dk_180 0 30 (dk_at dksX2_next_8 6 rfl rfl)
theorem dX2_next_197 : decode cX2_next 197 = .ok (.isub, 1) := dk_100 (dk_at dksX2_next_8 9 rfl rfl)
theorem dX2_next_198 : decode cX2_next 198 = .ok (.bipush 12, 2) := dk_16 12 (dk_at dksX2_next_8 10 rfl rfl)
theorem dX2_next_200 : decode cX2_next 200 = .ok (.if_icmp .le 7, 3) := dk_164 0 7 (dk_at dksX2_next_8 12 rfl rfl)
theorem dX2_next_203 : decode cX2_next 203 = .ok (.iconst 1, 1) := dk_4 (dk_at dksX2_next_8 15 rfl rfl)
theorem dX2_next_204 : decode cX2_next 204 = .ok (.goto 4, 3) := dk_167 0 4 (dk_at dksX2_next_8 16 rfl rfl)
theorem dX2_next_207 : decode cX2_next 207 = .ok (.iconst 3, 1) := dk_6 (dk_at dksX2_next_8 19 rfl rfl)
theorem dX2_next_208 : decode cX2_next 208 = .ok (.putfield 37, 3) := dk_181 0 37 (dk_at dksX2_next_8 20 rfl rfl)
theorem dX2_next_211 : decode cX2_next 211 = .ok (.goto 34, 3) := dk_167 0 34 (dk_at dksX2_next_9 0 rfl rfl)
theorem dX2_next_214 : decode cX2_next 214 = .ok (.aload_n 0, 1) := dk_42 (dk_at dksX2_next_9 3 rfl rfl)
theorem dX2_next_215 : decode cX2_next 215 = .ok (.dup, 1) := dk_89 (dk_at dksX2_next_9 4 rfl rfl)
theorem dX2_next_216 : decode cX2_next 216 = .ok (.getfield 23, 3) := dk_180 0 23 (dk_at dksX2_next_9 5 rfl rfl)
theorem dX2_next_219 : decode cX2_next 219 = .ok (.iconst 1, 1) := dk_4 (dk_at dksX2_next_9 8 rfl rfl)
theorem dX2_next_220 : decode cX2_next 220 = .ok (.iadd, 1) := dk_96 (dk_at dksX2_next_9 9 rfl rfl)
theorem dX2_next_221 : decode cX2_next 221 = .ok (.putfield 23, 3) := dk_181 0 23 (dk_at dksX2_next_9 10 rfl rfl)
theorem dX2_next_224 : decode cX2_next 224 = .ok (.aload_n 0, 1) := dk_42 (dk_at dksX2_next_9 13 rfl rfl)
theorem dX2_next_225 : decode cX2_next 225 = .ok (.iload_n 1, 1) := dk_27 (dk_at dksX2_next_9 14 rfl rfl)
theorem dX2_next_226 : decode cX2_next 226 = .ok (.bipush 59, 2) := dk_16 59 (dk_at dksX2_next_9 15 rfl rfl)
theorem dX2_next_228 : decode cX2_next 228 = .ok (.if_icmp .eq 9, 3) := dk_159 0 9 (dk_at dksX2_next_9 17 rfl rfl)
theorem dX2_next_231 : decode cX2_next 231 = .ok (.iload_n 1, 1) := dk_27 (dk_at dksX2_next_9 20 rfl rfl)
theorem dX2_next_232 : decode cX2_next 232 = .ok (.bipush 45, 2) := dk_16 45 (dk_at dksX2_next_9 21 rfl rfl)
theorem dX2_next_234 : decode cX2_next 234 = .ok (.if_icmp .ne 7, 3) := dk_160 0 7 (dk_at dksX2_next_10 0 rfl rfl)
theorem dX2_next_237 : decode cX2_next 237 = .ok (.iconst 4, 1) := dk_7 (dk_at dksX2_next_10 3 rfl rfl)
theorem dX2_next_238 : decode cX2_next 238 = .ok (.goto 4, 3) := dk_167 0 4 (dk_at dksX2_next_10 4 rfl rfl)
theorem dX2_next_241 : decode cX2_next 241 = .ok (.iconst 1, 1) := dk_4 (dk_at dksX2_next_10 7 rfl rfl)
theorem dX2_next_242 : decode cX2_next 242 = .ok (.putfield 37, 3) := dk_181 0 37 (dk_at dksX2_next_10 8 rfl rfl)
theorem dX2_next_245 : decode cX2_next 245 = .ok (.return_, 1) := dk_177 (dk_at dksX2_next_10 11 rfl rfl)
abbrev cX2_at : ByteArray := prog_5_method_2_code
def yX2_at : MethodName := ⟨RX2, "at", "(I)I"⟩
def dkwX2_at_0 : List UInt8 := [27, 42, 180, 0, 19, 162, 0, 16, 42, 180, 0, 9, 27, 51, 17, 0, 255, 126, 167, 0, 4, 2, 172]
abbrev dktX2_at_0 : List UInt8 := dkwX2_at_0 ++ []
theorem dksX2_at_0 : cX2_at.data.toList.drop 0 = dktX2_at_0 := by decide +kernel
theorem dX2_at_0 : decode cX2_at 0 = .ok (.iload_n 1, 1) := dk_27 (dk_at dksX2_at_0 0 rfl rfl)
theorem dX2_at_1 : decode cX2_at 1 = .ok (.aload_n 0, 1) := dk_42 (dk_at dksX2_at_0 1 rfl rfl)
theorem dX2_at_2 : decode cX2_at 2 = .ok (.getfield 19, 3) := dk_180 0 19 (dk_at dksX2_at_0 2 rfl rfl)
theorem dX2_at_5 : decode cX2_at 5 = .ok (.if_icmp .ge 16, 3) := dk_162 0 16 (dk_at dksX2_at_0 5 rfl rfl)
theorem dX2_at_8 : decode cX2_at 8 = .ok (.aload_n 0, 1) := dk_42 (dk_at dksX2_at_0 8 rfl rfl)
theorem dX2_at_9 : decode cX2_at 9 = .ok (.getfield 9, 3) := dk_180 0 9 (dk_at dksX2_at_0 9 rfl rfl)
theorem dX2_at_12 : decode cX2_at 12 = .ok (.iload_n 1, 1) := dk_27 (dk_at dksX2_at_0 12 rfl rfl)
theorem dX2_at_13 : decode cX2_at 13 = .ok (.baload, 1) := dk_51 (dk_at dksX2_at_0 13 rfl rfl)
theorem dX2_at_14 : decode cX2_at 14 = .ok (.sipush 255, 3) := dk_17 0 255 (dk_at dksX2_at_0 14 rfl rfl)
theorem dX2_at_17 : decode cX2_at 17 = .ok (.iand, 1) := dk_126 (dk_at dksX2_at_0 17 rfl rfl)
theorem dX2_at_18 : decode cX2_at 18 = .ok (.goto 4, 3) := dk_167 0 4 (dk_at dksX2_at_0 18 rfl rfl)
theorem dX2_at_21 : decode cX2_at 21 = .ok (.iconst (-1), 1) := dk_2 (dk_at dksX2_at_0 21 rfl rfl)
theorem dX2_at_22 : decode cX2_at 22 = .ok (.ireturn, 1) := dk_172 (dk_at dksX2_at_0 22 rfl rfl)
abbrev cX2_isSmall : ByteArray := prog_5_method_4_code
def yX2_isSmall : MethodName := ⟨RX2, "isSmall", "(I)Z"⟩
def dkwX2_isSmall_0 : List UInt8 := [26, 16, 97, 161, 0, 13, 26, 16, 122, 163, 0, 7, 4, 167, 0, 4, 3, 172]
abbrev dktX2_isSmall_0 : List UInt8 := dkwX2_isSmall_0 ++ []
theorem dksX2_isSmall_0 : cX2_isSmall.data.toList.drop 0 = dktX2_isSmall_0 := by decide +kernel
theorem dX2_isSmall_0 : decode cX2_isSmall 0 = .ok (.iload_n 0, 1) := dk_26 (dk_at dksX2_isSmall_0 0 rfl rfl)
theorem dX2_isSmall_1 : decode cX2_isSmall 1 = .ok (.bipush 97, 2) := dk_16 97 (dk_at dksX2_isSmall_0 1 rfl rfl)
theorem dX2_isSmall_3 : decode cX2_isSmall 3 = .ok (.if_icmp .lt 13, 3) := dk_161 0 13 (dk_at dksX2_isSmall_0 3 rfl rfl)
theorem dX2_isSmall_6 : decode cX2_isSmall 6 = .ok (.iload_n 0, 1) := dk_26 (dk_at dksX2_isSmall_0 6 rfl rfl)
theorem dX2_isSmall_7 : decode cX2_isSmall 7 = .ok (.bipush 122, 2) := dk_16 122 (dk_at dksX2_isSmall_0 7 rfl rfl)
theorem dX2_isSmall_9 : decode cX2_isSmall 9 = .ok (.if_icmp .gt 7, 3) := dk_163 0 7 (dk_at dksX2_isSmall_0 9 rfl rfl)
theorem dX2_isSmall_12 : decode cX2_isSmall 12 = .ok (.iconst 1, 1) := dk_4 (dk_at dksX2_isSmall_0 12 rfl rfl)
theorem dX2_isSmall_13 : decode cX2_isSmall 13 = .ok (.goto 4, 3) := dk_167 0 4 (dk_at dksX2_isSmall_0 13 rfl rfl)
theorem dX2_isSmall_16 : decode cX2_isSmall 16 = .ok (.iconst 0, 1) := dk_3 (dk_at dksX2_isSmall_0 16 rfl rfl)
theorem dX2_isSmall_17 : decode cX2_isSmall 17 = .ok (.ireturn, 1) := dk_172 (dk_at dksX2_isSmall_0 17 rfl rfl)
abbrev cX2_isDigit : ByteArray := prog_5_method_3_code
def yX2_isDigit : MethodName := ⟨RX2, "isDigit", "(I)Z"⟩
def dkwX2_isDigit_0 : List UInt8 := [26, 16, 48, 161, 0, 13, 26, 16, 57, 163, 0, 7, 4, 167, 0, 4, 3, 172]
abbrev dktX2_isDigit_0 : List UInt8 := dkwX2_isDigit_0 ++ []
theorem dksX2_isDigit_0 : cX2_isDigit.data.toList.drop 0 = dktX2_isDigit_0 := by decide +kernel
theorem dX2_isDigit_0 : decode cX2_isDigit 0 = .ok (.iload_n 0, 1) := dk_26 (dk_at dksX2_isDigit_0 0 rfl rfl)
theorem dX2_isDigit_1 : decode cX2_isDigit 1 = .ok (.bipush 48, 2) := dk_16 48 (dk_at dksX2_isDigit_0 1 rfl rfl)
theorem dX2_isDigit_3 : decode cX2_isDigit 3 = .ok (.if_icmp .lt 13, 3) := dk_161 0 13 (dk_at dksX2_isDigit_0 3 rfl rfl)
theorem dX2_isDigit_6 : decode cX2_isDigit 6 = .ok (.iload_n 0, 1) := dk_26 (dk_at dksX2_isDigit_0 6 rfl rfl)
theorem dX2_isDigit_7 : decode cX2_isDigit 7 = .ok (.bipush 57, 2) := dk_16 57 (dk_at dksX2_isDigit_0 7 rfl rfl)
theorem dX2_isDigit_9 : decode cX2_isDigit 9 = .ok (.if_icmp .gt 7, 3) := dk_163 0 7 (dk_at dksX2_isDigit_0 9 rfl rfl)
theorem dX2_isDigit_12 : decode cX2_isDigit 12 = .ok (.iconst 1, 1) := dk_4 (dk_at dksX2_isDigit_0 12 rfl rfl)
theorem dX2_isDigit_13 : decode cX2_isDigit 13 = .ok (.goto 4, 3) := dk_167 0 4 (dk_at dksX2_isDigit_0 13 rfl rfl)
theorem dX2_isDigit_16 : decode cX2_isDigit 16 = .ok (.iconst 0, 1) := dk_3 (dk_at dksX2_isDigit_0 16 rfl rfl)
theorem dX2_isDigit_17 : decode cX2_isDigit 17 = .ok (.ireturn, 1) := dk_172 (dk_at dksX2_isDigit_0 17 rfl rfl)
abbrev cX2_kind : ByteArray := prog_5_method_11_code
def yX2_kind : MethodName := ⟨RX2, "kind", "()I"⟩
def dkwX2_kind_2 : List UInt8 := [132, 1, 1, 29, 4, 96, 61, 167, 255, 208, 2, 172]
abbrev dktX2_kind_2 : List UInt8 := dkwX2_kind_2 ++ []
def dkwX2_kind_1 : List UInt8 := [159, 0, 9, 132, 3, 1, 167, 255, 242, 42, 18, 83, 28, 29, 182, 0, 69, 153, 0, 5, 27, 172]
abbrev dktX2_kind_1 : List UInt8 := dkwX2_kind_1 ++ dktX2_kind_2
def dkwX2_kind_0 : List UInt8 := [3, 60, 4, 61, 28, 18, 83, 182, 0, 65, 162, 0, 45, 28, 62, 18, 83, 29, 182, 0, 59, 16, 32]
abbrev dktX2_kind_0 : List UInt8 := dkwX2_kind_0 ++ dktX2_kind_1
theorem dksX2_kind_0 : cX2_kind.data.toList.drop 0 = dktX2_kind_0 := by decide +kernel
theorem dksX2_kind_1 : cX2_kind.data.toList.drop 23 = dktX2_kind_1 := dk_seg dksX2_kind_0 23 rfl rfl
theorem dksX2_kind_2 : cX2_kind.data.toList.drop 45 = dktX2_kind_2 := dk_seg dksX2_kind_1 22 rfl rfl
theorem dX2_kind_0 : decode cX2_kind 0 = .ok (.iconst 0, 1) := dk_3 (dk_at dksX2_kind_0 0 rfl rfl)
theorem dX2_kind_1 : decode cX2_kind 1 = .ok (.istore_n 1, 1) := dk_60 (dk_at dksX2_kind_0 1 rfl rfl)
theorem dX2_kind_2 : decode cX2_kind 2 = .ok (.iconst 1, 1) := dk_4 (dk_at dksX2_kind_0 2 rfl rfl)
theorem dX2_kind_3 : decode cX2_kind 3 = .ok (.istore_n 2, 1) := dk_61 (dk_at dksX2_kind_0 3 rfl rfl)
theorem dX2_kind_4 : decode cX2_kind 4 = .ok (.iload_n 2, 1) := dk_28 (dk_at dksX2_kind_0 4 rfl rfl)
theorem dX2_kind_5 : decode cX2_kind 5 = .ok (.ldc 83, 2) := dk_18 83 (dk_at dksX2_kind_0 5 rfl rfl)
theorem dX2_kind_7 : decode cX2_kind 7 = .ok (.invokevirtual 65, 3) := dk_182 0 65 (dk_at dksX2_kind_0 7 rfl rfl)
theorem dX2_kind_10 : decode cX2_kind 10 = .ok (.if_icmp .ge 45, 3) := dk_162 0 45 (dk_at dksX2_kind_0 10 rfl rfl)
theorem dX2_kind_13 : decode cX2_kind 13 = .ok (.iload_n 2, 1) := dk_28 (dk_at dksX2_kind_0 13 rfl rfl)
theorem dX2_kind_14 : decode cX2_kind 14 = .ok (.istore_n 3, 1) := dk_62 (dk_at dksX2_kind_0 14 rfl rfl)
theorem dX2_kind_15 : decode cX2_kind 15 = .ok (.ldc 83, 2) := dk_18 83 (dk_at dksX2_kind_0 15 rfl rfl)
theorem dX2_kind_17 : decode cX2_kind 17 = .ok (.iload_n 3, 1) := dk_29 (dk_at dksX2_kind_0 17 rfl rfl)
theorem dX2_kind_18 : decode cX2_kind 18 = .ok (.invokevirtual 59, 3) := dk_182 0 59 (dk_at dksX2_kind_0 18 rfl rfl)
theorem dX2_kind_21 : decode cX2_kind 21 = .ok (.bipush 32, 2) := dk_16 32 (dk_at dksX2_kind_0 21 rfl rfl)
theorem dX2_kind_23 : decode cX2_kind 23 = .ok (.if_icmp .eq 9, 3) := dk_159 0 9 (dk_at dksX2_kind_1 0 rfl rfl)
theorem dX2_kind_26 : decode cX2_kind 26 = .ok (.iinc 3 1, 3) := dk_132 3 1 (dk_at dksX2_kind_1 3 rfl rfl)
theorem dX2_kind_29 : decode cX2_kind 29 = .ok (.goto (-14), 3) := dk_167 255 242 (dk_at dksX2_kind_1 6 rfl rfl)
theorem dX2_kind_32 : decode cX2_kind 32 = .ok (.aload_n 0, 1) := dk_42 (dk_at dksX2_kind_1 9 rfl rfl)
theorem dX2_kind_33 : decode cX2_kind 33 = .ok (.ldc 83, 2) := dk_18 83 (dk_at dksX2_kind_1 10 rfl rfl)
theorem dX2_kind_35 : decode cX2_kind 35 = .ok (.iload_n 2, 1) := dk_28 (dk_at dksX2_kind_1 12 rfl rfl)
theorem dX2_kind_36 : decode cX2_kind 36 = .ok (.iload_n 3, 1) := dk_29 (dk_at dksX2_kind_1 13 rfl rfl)
theorem dX2_kind_37 : decode cX2_kind 37 = .ok (.invokevirtual 69, 3) := dk_182 0 69 (dk_at dksX2_kind_1 14 rfl rfl)
theorem dX2_kind_40 : decode cX2_kind 40 = .ok (.ifCond .eq 5, 3) := dk_153 0 5 (dk_at dksX2_kind_1 17 rfl rfl)
theorem dX2_kind_43 : decode cX2_kind 43 = .ok (.iload_n 1, 1) := dk_27 (dk_at dksX2_kind_1 20 rfl rfl)
theorem dX2_kind_44 : decode cX2_kind 44 = .ok (.ireturn, 1) := dk_172 (dk_at dksX2_kind_1 21 rfl rfl)
theorem dX2_kind_45 : decode cX2_kind 45 = .ok (.iinc 1 1, 3) := dk_132 1 1 (dk_at dksX2_kind_2 0 rfl rfl)
theorem dX2_kind_48 : decode cX2_kind 48 = .ok (.iload_n 3, 1) := dk_29 (dk_at dksX2_kind_2 3 rfl rfl)
theorem dX2_kind_49 : decode cX2_kind 49 = .ok (.iconst 1, 1) := dk_4 (dk_at dksX2_kind_2 4 rfl rfl)
theorem dX2_kind_50 : decode cX2_kind 50 = .ok (.iadd, 1) := dk_96 (dk_at dksX2_kind_2 5 rfl rfl)
theorem dX2_kind_51 : decode cX2_kind 51 = .ok (.istore_n 2, 1) := dk_61 (dk_at dksX2_kind_2 6 rfl rfl)
theorem dX2_kind_52 : decode cX2_kind 52 = .ok (.goto (-48), 3) := dk_167 255 208 (dk_at dksX2_kind_2 7 rfl rfl)
theorem dX2_kind_55 : decode cX2_kind 55 = .ok (.iconst (-1), 1) := dk_2 (dk_at dksX2_kind_2 10 rfl rfl)
theorem dX2_kind_56 : decode cX2_kind 56 = .ok (.ireturn, 1) := dk_172 (dk_at dksX2_kind_2 11 rfl rfl)
abbrev cX2_is : ByteArray := prog_5_method_7_code
def yX2_is : MethodName := ⟨RX2, "is", "(Ljava/lang/String;II)Z"⟩
def dkwX2_is_2 : List UInt8 := [28, 100, 182, 0, 26, 159, 0, 5, 3, 172, 132, 4, 1, 167, 255, 223, 4, 172]
abbrev dktX2_is_2 : List UInt8 := dkwX2_is_2 ++ []
def dkwX2_is_1 : List UInt8 := [172, 28, 54, 4, 21, 4, 29, 162, 0, 33, 43, 21, 4, 182, 0, 59, 42, 42, 180, 0, 30, 21, 4, 96]
abbrev dktX2_is_1 : List UInt8 := dkwX2_is_1 ++ dktX2_is_2
def dkwX2_is_0 : List UInt8 := [42, 180, 0, 37, 5, 160, 0, 18, 29, 28, 100, 42, 180, 0, 23, 42, 180, 0, 30, 100, 159, 0, 5, 3]
abbrev dktX2_is_0 : List UInt8 := dkwX2_is_0 ++ dktX2_is_1
theorem dksX2_is_0 : cX2_is.data.toList.drop 0 = dktX2_is_0 := by decide +kernel
theorem dksX2_is_1 : cX2_is.data.toList.drop 24 = dktX2_is_1 := dk_seg dksX2_is_0 24 rfl rfl
theorem dksX2_is_2 : cX2_is.data.toList.drop 48 = dktX2_is_2 := dk_seg dksX2_is_1 24 rfl rfl
theorem dX2_is_0 : decode cX2_is 0 = .ok (.aload_n 0, 1) := dk_42 (dk_at dksX2_is_0 0 rfl rfl)
theorem dX2_is_1 : decode cX2_is 1 = .ok (.getfield 37, 3) := dk_180 0 37 (dk_at dksX2_is_0 1 rfl rfl)
theorem dX2_is_4 : decode cX2_is 4 = .ok (.iconst 2, 1) := dk_5 (dk_at dksX2_is_0 4 rfl rfl)
theorem dX2_is_5 : decode cX2_is 5 = .ok (.if_icmp .ne 18, 3) := dk_160 0 18 (dk_at dksX2_is_0 5 rfl rfl)
theorem dX2_is_8 : decode cX2_is 8 = .ok (.iload_n 3, 1) := dk_29 (dk_at dksX2_is_0 8 rfl rfl)
theorem dX2_is_9 : decode cX2_is 9 = .ok (.iload_n 2, 1) := dk_28 (dk_at dksX2_is_0 9 rfl rfl)
theorem dX2_is_10 : decode cX2_is 10 = .ok (.isub, 1) := dk_100 (dk_at dksX2_is_0 10 rfl rfl)
theorem dX2_is_11 : decode cX2_is 11 = .ok (.aload_n 0, 1) := dk_42 (dk_at dksX2_is_0 11 rfl rfl)
theorem dX2_is_12 : decode cX2_is 12 = .ok (.getfield 23, 3) := dk_180 0 23 (dk_at dksX2_is_0 12 rfl rfl)
theorem dX2_is_15 : decode cX2_is 15 = .ok (.aload_n 0, 1) := dk_42 (dk_at dksX2_is_0 15 rfl rfl)
theorem dX2_is_16 : decode cX2_is 16 = .ok (.getfield 30, 3) := dk_180 0 30 (dk_at dksX2_is_0 16 rfl rfl)
theorem dX2_is_19 : decode cX2_is 19 = .ok (.isub, 1) := dk_100 (dk_at dksX2_is_0 19 rfl rfl)
theorem dX2_is_20 : decode cX2_is 20 = .ok (.if_icmp .eq 5, 3) := dk_159 0 5 (dk_at dksX2_is_0 20 rfl rfl)
theorem dX2_is_23 : decode cX2_is 23 = .ok (.iconst 0, 1) := dk_3 (dk_at dksX2_is_0 23 rfl rfl)
theorem dX2_is_24 : decode cX2_is 24 = .ok (.ireturn, 1) := dk_172 (dk_at dksX2_is_1 0 rfl rfl)
theorem dX2_is_25 : decode cX2_is 25 = .ok (.iload_n 2, 1) := dk_28 (dk_at dksX2_is_1 1 rfl rfl)
theorem dX2_is_26 : decode cX2_is 26 = .ok (.istore 4, 2) := dk_54 4 (dk_at dksX2_is_1 2 rfl rfl)
theorem dX2_is_28 : decode cX2_is 28 = .ok (.iload 4, 2) := dk_21 4 (dk_at dksX2_is_1 4 rfl rfl)
theorem dX2_is_30 : decode cX2_is 30 = .ok (.iload_n 3, 1) := dk_29 (dk_at dksX2_is_1 6 rfl rfl)
theorem dX2_is_31 : decode cX2_is 31 = .ok (.if_icmp .ge 33, 3) := dk_162 0 33 (dk_at dksX2_is_1 7 rfl rfl)
theorem dX2_is_34 : decode cX2_is 34 = .ok (.aload_n 1, 1) := dk_43 (dk_at dksX2_is_1 10 rfl rfl)
theorem dX2_is_35 : decode cX2_is 35 = .ok (.iload 4, 2) := dk_21 4 (dk_at dksX2_is_1 11 rfl rfl)
theorem dX2_is_37 : decode cX2_is 37 = .ok (.invokevirtual 59, 3) := dk_182 0 59 (dk_at dksX2_is_1 13 rfl rfl)
theorem dX2_is_40 : decode cX2_is 40 = .ok (.aload_n 0, 1) := dk_42 (dk_at dksX2_is_1 16 rfl rfl)
theorem dX2_is_41 : decode cX2_is 41 = .ok (.aload_n 0, 1) := dk_42 (dk_at dksX2_is_1 17 rfl rfl)
theorem dX2_is_42 : decode cX2_is 42 = .ok (.getfield 30, 3) := dk_180 0 30 (dk_at dksX2_is_1 18 rfl rfl)
theorem dX2_is_45 : decode cX2_is 45 = .ok (.iload 4, 2) := dk_21 4 (dk_at dksX2_is_1 21 rfl rfl)
theorem dX2_is_47 : decode cX2_is 47 = .ok (.iadd, 1) := dk_96 (dk_at dksX2_is_1 23 rfl rfl)
theorem dX2_is_48 : decode cX2_is 48 = .ok (.iload_n 2, 1) := dk_28 (dk_at dksX2_is_2 0 rfl rfl)
theorem dX2_is_49 : decode cX2_is 49 = .ok (.isub, 1) := dk_100 (dk_at dksX2_is_2 1 rfl rfl)
theorem dX2_is_50 : decode cX2_is 50 = .ok (.invokevirtual 26, 3) := dk_182 0 26 (dk_at dksX2_is_2 2 rfl rfl)
theorem dX2_is_53 : decode cX2_is 53 = .ok (.if_icmp .eq 5, 3) := dk_159 0 5 (dk_at dksX2_is_2 5 rfl rfl)
theorem dX2_is_56 : decode cX2_is 56 = .ok (.iconst 0, 1) := dk_3 (dk_at dksX2_is_2 8 rfl rfl)
theorem dX2_is_57 : decode cX2_is 57 = .ok (.ireturn, 1) := dk_172 (dk_at dksX2_is_2 9 rfl rfl)
theorem dX2_is_58 : decode cX2_is 58 = .ok (.iinc 4 1, 3) := dk_132 4 1 (dk_at dksX2_is_2 10 rfl rfl)
theorem dX2_is_61 : decode cX2_is 61 = .ok (.goto (-33), 3) := dk_167 255 223 (dk_at dksX2_is_2 13 rfl rfl)
theorem dX2_is_64 : decode cX2_is 64 = .ok (.iconst 1, 1) := dk_4 (dk_at dksX2_is_2 16 rfl rfl)
theorem dX2_is_65 : decode cX2_is 65 = .ok (.ireturn, 1) := dk_172 (dk_at dksX2_is_2 17 rfl rfl)
abbrev cX2_need : ByteArray := prog_5_method_10_code
def yX2_need : MethodName := ⟨RX2, "need", "(Z)V"⟩
def dkwX2_need_0 : List UInt8 := [27, 154, 0, 9, 42, 5, 182, 0, 79, 191, 177]
abbrev dktX2_need_0 : List UInt8 := dkwX2_need_0 ++ []
theorem dksX2_need_0 : cX2_need.data.toList.drop 0 = dktX2_need_0 := by decide +kernel
theorem dX2_need_0 : decode cX2_need 0 = .ok (.iload_n 1, 1) := dk_27 (dk_at dksX2_need_0 0 rfl rfl)
theorem dX2_need_1 : decode cX2_need 1 = .ok (.ifCond .ne 9, 3) := dk_154 0 9 (dk_at dksX2_need_0 1 rfl rfl)
theorem dX2_need_4 : decode cX2_need 4 = .ok (.aload_n 0, 1) := dk_42 (dk_at dksX2_need_0 4 rfl rfl)
theorem dX2_need_5 : decode cX2_need 5 = .ok (.iconst 2, 1) := dk_5 (dk_at dksX2_need_0 5 rfl rfl)
theorem dX2_need_6 : decode cX2_need 6 = .ok (.invokevirtual 79, 3) := dk_182 0 79 (dk_at dksX2_need_0 6 rfl rfl)
theorem dX2_need_9 : decode cX2_need 9 = .ok (.athrow, 1) := dk_191 (dk_at dksX2_need_0 9 rfl rfl)
theorem dX2_need_10 : decode cX2_need 10 = .ok (.return_, 1) := dk_177 (dk_at dksX2_need_0 10 rfl rfl)
abbrev cX2_fail : ByteArray := prog_5_method_9_code
def yX2_fail : MethodName := ⟨RX2, "fail", "(I)LWheelTables$Wrong;"⟩
def dkwX2_fail_1 : List UInt8 := [176]
abbrev dktX2_fail_1 : List UInt8 := dkwX2_fail_1 ++ []
def dkwX2_fail_0 : List UInt8 := [42, 180, 0, 15, 42, 180, 0, 37, 4, 160, 0, 7, 4, 167, 0, 4, 27, 42, 180, 0, 30, 182, 0, 73]
abbrev dktX2_fail_0 : List UInt8 := dkwX2_fail_0 ++ dktX2_fail_1
theorem dksX2_fail_0 : cX2_fail.data.toList.drop 0 = dktX2_fail_0 := by decide +kernel
theorem dksX2_fail_1 : cX2_fail.data.toList.drop 24 = dktX2_fail_1 := dk_seg dksX2_fail_0 24 rfl rfl
theorem dX2_fail_0 : decode cX2_fail 0 = .ok (.aload_n 0, 1) := dk_42 (dk_at dksX2_fail_0 0 rfl rfl)
theorem dX2_fail_1 : decode cX2_fail 1 = .ok (.getfield 15, 3) := dk_180 0 15 (dk_at dksX2_fail_0 1 rfl rfl)
theorem dX2_fail_4 : decode cX2_fail 4 = .ok (.aload_n 0, 1) := dk_42 (dk_at dksX2_fail_0 4 rfl rfl)
theorem dX2_fail_5 : decode cX2_fail 5 = .ok (.getfield 37, 3) := dk_180 0 37 (dk_at dksX2_fail_0 5 rfl rfl)
theorem dX2_fail_8 : decode cX2_fail 8 = .ok (.iconst 1, 1) := dk_4 (dk_at dksX2_fail_0 8 rfl rfl)
theorem dX2_fail_9 : decode cX2_fail 9 = .ok (.if_icmp .ne 7, 3) := dk_160 0 7 (dk_at dksX2_fail_0 9 rfl rfl)
theorem dX2_fail_12 : decode cX2_fail 12 = .ok (.iconst 1, 1) := dk_4 (dk_at dksX2_fail_0 12 rfl rfl)
theorem dX2_fail_13 : decode cX2_fail 13 = .ok (.goto 4, 3) := dk_167 0 4 (dk_at dksX2_fail_0 13 rfl rfl)
theorem dX2_fail_16 : decode cX2_fail 16 = .ok (.iload_n 1, 1) := dk_27 (dk_at dksX2_fail_0 16 rfl rfl)
theorem dX2_fail_17 : decode cX2_fail 17 = .ok (.aload_n 0, 1) := dk_42 (dk_at dksX2_fail_0 17 rfl rfl)
theorem dX2_fail_18 : decode cX2_fail 18 = .ok (.getfield 30, 3) := dk_180 0 30 (dk_at dksX2_fail_0 18 rfl rfl)
theorem dX2_fail_21 : decode cX2_fail 21 = .ok (.invokevirtual 73, 3) := dk_182 0 73 (dk_at dksX2_fail_0 21 rfl rfl)
theorem dX2_fail_24 : decode cX2_fail 24 = .ok (.areturn, 1) := dk_176 (dk_at dksX2_fail_1 0 rfl rfl)
abbrev cX2_card : ByteArray := prog_5_method_13_code
def yX2_card : MethodName := ⟨RX2, "card", "(I)LWheelTables$Card;"⟩
def dkwX2_card_5 : List UInt8 := [167, 255, 197, 27, 154, 0, 8, 42, 44, 182, 0, 123, 44, 176]
abbrev dktX2_card_5 : List UInt8 := dkwX2_card_5 ++ []
def dkwX2_card_4 : List UInt8 := [7, 182, 0, 79, 191, 44, 180, 0, 120, 21, 4, 42, 180, 0, 33, 136, 79, 42, 182, 0, 85, 132, 4, 1]
abbrev dktX2_card_4 : List UInt8 := dkwX2_card_4 ++ dktX2_card_5
def dkwX2_card_3 : List UInt8 := [6, 160, 0, 7, 4, 167, 0, 4, 3, 182, 0, 91, 42, 180, 0, 33, 20, 0, 118, 148, 155, 0, 9, 42]
abbrev dktX2_card_3 : List UInt8 := dkwX2_card_3 ++ dktX2_card_4
def dkwX2_card_2 : List UInt8 := [7, 160, 0, 7, 7, 167, 0, 4, 6, 62, 3, 54, 4, 21, 4, 29, 162, 0, 59, 42, 42, 180, 0, 37]
abbrev dktX2_card_2 : List UInt8 := dkwX2_card_2 ++ dktX2_card_3
def dkwX2_card_1 : List UInt8 := [160, 0, 10, 42, 44, 182, 0, 114, 44, 176, 27, 153, 0, 8, 27, 8, 160, 0, 7, 4, 167, 0, 13, 27]
abbrev dktX2_card_1 : List UInt8 := dkwX2_card_1 ++ dktX2_card_2
def dkwX2_card_0 : List UInt8 := [187, 0, 102, 89, 27, 183, 0, 111, 77, 42, 182, 0, 85, 27, 16, 6, 159, 0, 9, 27, 16, 7]
abbrev dktX2_card_0 : List UInt8 := dkwX2_card_0 ++ dktX2_card_1
theorem dksX2_card_0 : cX2_card.data.toList.drop 0 = dktX2_card_0 := by decide +kernel
theorem dksX2_card_1 : cX2_card.data.toList.drop 22 = dktX2_card_1 := dk_seg dksX2_card_0 22 rfl rfl
theorem dksX2_card_2 : cX2_card.data.toList.drop 46 = dktX2_card_2 := dk_seg dksX2_card_1 24 rfl rfl
theorem dksX2_card_3 : cX2_card.data.toList.drop 70 = dktX2_card_3 := dk_seg dksX2_card_2 24 rfl rfl
theorem dksX2_card_4 : cX2_card.data.toList.drop 94 = dktX2_card_4 := dk_seg dksX2_card_3 24 rfl rfl
theorem dksX2_card_5 : cX2_card.data.toList.drop 118 = dktX2_card_5 := dk_seg dksX2_card_4 24 rfl rfl
theorem dX2_card_0 : decode cX2_card 0 = .ok (.new 102, 3) := dk_187 0 102 (dk_at dksX2_card_0 0 rfl rfl)
theorem dX2_card_3 : decode cX2_card 3 = .ok (.dup, 1) := dk_89 (dk_at dksX2_card_0 3 rfl rfl)
theorem dX2_card_4 : decode cX2_card 4 = .ok (.iload_n 1, 1) := dk_27 (dk_at dksX2_card_0 4 rfl rfl)
theorem dX2_card_5 : decode cX2_card 5 = .ok (.invokespecial 111, 3) := dk_183 0 111 (dk_at dksX2_card_0 5 rfl rfl)
theorem dX2_card_8 : decode cX2_card 8 = .ok (.astore_n 2, 1) := dk_77 (dk_at dksX2_card_0 8 rfl rfl)
theorem dX2_card_9 : decode cX2_card 9 = .ok (.aload_n 0, 1) := dk_42 (dk_at dksX2_card_0 9 rfl rfl)
theorem dX2_card_10 : decode cX2_card 10 = .ok (.invokevirtual 85, 3) := dk_182 0 85 (dk_at dksX2_card_0 10 rfl rfl)
theorem dX2_card_13 : decode cX2_card 13 = .ok (.iload_n 1, 1) := dk_27 (dk_at dksX2_card_0 13 rfl rfl)
theorem dX2_card_14 : decode cX2_card 14 = .ok (.bipush 6, 2) := dk_16 6 (dk_at dksX2_card_0 14 rfl rfl)
theorem dX2_card_16 : decode cX2_card 16 = .ok (.if_icmp .eq 9, 3) := dk_159 0 9 (dk_at dksX2_card_0 16 rfl rfl)
theorem dX2_card_19 : decode cX2_card 19 = .ok (.iload_n 1, 1) := dk_27 (dk_at dksX2_card_0 19 rfl rfl)
theorem dX2_card_20 : decode cX2_card 20 = .ok (.bipush 7, 2) := dk_16 7 (dk_at dksX2_card_0 20 rfl rfl)
theorem dX2_card_22 : decode cX2_card 22 = .ok (.if_icmp .ne 10, 3) := dk_160 0 10 (dk_at dksX2_card_1 0 rfl rfl)
theorem dX2_card_25 : decode cX2_card 25 = .ok (.aload_n 0, 1) := dk_42 (dk_at dksX2_card_1 3 rfl rfl)
theorem dX2_card_26 : decode cX2_card 26 = .ok (.aload_n 2, 1) := dk_44 (dk_at dksX2_card_1 4 rfl rfl)
theorem dX2_card_27 : decode cX2_card 27 = .ok (.invokevirtual 114, 3) := dk_182 0 114 (dk_at dksX2_card_1 5 rfl rfl)
theorem dX2_card_30 : decode cX2_card 30 = .ok (.aload_n 2, 1) := dk_44 (dk_at dksX2_card_1 8 rfl rfl)
theorem dX2_card_31 : decode cX2_card 31 = .ok (.areturn, 1) := dk_176 (dk_at dksX2_card_1 9 rfl rfl)
theorem dX2_card_32 : decode cX2_card 32 = .ok (.iload_n 1, 1) := dk_27 (dk_at dksX2_card_1 10 rfl rfl)
theorem dX2_card_33 : decode cX2_card 33 = .ok (.ifCond .eq 8, 3) := dk_153 0 8 (dk_at dksX2_card_1 11 rfl rfl)
theorem dX2_card_36 : decode cX2_card 36 = .ok (.iload_n 1, 1) := dk_27 (dk_at dksX2_card_1 14 rfl rfl)
theorem dX2_card_37 : decode cX2_card 37 = .ok (.iconst 5, 1) := dk_8 (dk_at dksX2_card_1 15 rfl rfl)
theorem dX2_card_38 : decode cX2_card 38 = .ok (.if_icmp .ne 7, 3) := dk_160 0 7 (dk_at dksX2_card_1 16 rfl rfl)
theorem dX2_card_41 : decode cX2_card 41 = .ok (.iconst 1, 1) := dk_4 (dk_at dksX2_card_1 19 rfl rfl)
theorem dX2_card_42 : decode cX2_card 42 = .ok (.goto 13, 3) := dk_167 0 13 (dk_at dksX2_card_1 20 rfl rfl)
theorem dX2_card_45 : decode cX2_card 45 = .ok (.iload_n 1, 1) := dk_27 (dk_at dksX2_card_1 23 rfl rfl)
theorem dX2_card_46 : decode cX2_card 46 = .ok (.iconst 4, 1) := dk_7 (dk_at dksX2_card_2 0 rfl rfl)
theorem dX2_card_47 : decode cX2_card 47 = .ok (.if_icmp .ne 7, 3) := dk_160 0 7 (dk_at dksX2_card_2 1 rfl rfl)
theorem dX2_card_50 : decode cX2_card 50 = .ok (.iconst 4, 1) := dk_7 (dk_at dksX2_card_2 4 rfl rfl)
theorem dX2_card_51 : decode cX2_card 51 = .ok (.goto 4, 3) := dk_167 0 4 (dk_at dksX2_card_2 5 rfl rfl)
theorem dX2_card_54 : decode cX2_card 54 = .ok (.iconst 3, 1) := dk_6 (dk_at dksX2_card_2 8 rfl rfl)
theorem dX2_card_55 : decode cX2_card 55 = .ok (.istore_n 3, 1) := dk_62 (dk_at dksX2_card_2 9 rfl rfl)
theorem dX2_card_56 : decode cX2_card 56 = .ok (.iconst 0, 1) := dk_3 (dk_at dksX2_card_2 10 rfl rfl)
theorem dX2_card_57 : decode cX2_card 57 = .ok (.istore 4, 2) := dk_54 4 (dk_at dksX2_card_2 11 rfl rfl)
theorem dX2_card_59 : decode cX2_card 59 = .ok (.iload 4, 2) := dk_21 4 (dk_at dksX2_card_2 13 rfl rfl)
theorem dX2_card_61 : decode cX2_card 61 = .ok (.iload_n 3, 1) := dk_29 (dk_at dksX2_card_2 15 rfl rfl)
theorem dX2_card_62 : decode cX2_card 62 = .ok (.if_icmp .ge 59, 3) := dk_162 0 59 (dk_at dksX2_card_2 16 rfl rfl)
theorem dX2_card_65 : decode cX2_card 65 = .ok (.aload_n 0, 1) := dk_42 (dk_at dksX2_card_2 19 rfl rfl)
theorem dX2_card_66 : decode cX2_card 66 = .ok (.aload_n 0, 1) := dk_42 (dk_at dksX2_card_2 20 rfl rfl)
theorem dX2_card_67 : decode cX2_card 67 = .ok (.getfield 37, 3) := dk_180 0 37 (dk_at dksX2_card_2 21 rfl rfl)
theorem dX2_card_70 : decode cX2_card 70 = .ok (.iconst 3, 1) := dk_6 (dk_at dksX2_card_3 0 rfl rfl)
theorem dX2_card_71 : decode cX2_card 71 = .ok (.if_icmp .ne 7, 3) := dk_160 0 7 (dk_at dksX2_card_3 1 rfl rfl)
theorem dX2_card_74 : decode cX2_card 74 = .ok (.iconst 1, 1) := dk_4 (dk_at dksX2_card_3 4 rfl rfl)
theorem dX2_card_75 : decode cX2_card 75 = .ok (.goto 4, 3) := dk_167 0 4 (dk_at dksX2_card_3 5 rfl rfl)
theorem dX2_card_78 : decode cX2_card 78 = .ok (.iconst 0, 1) := dk_3 (dk_at dksX2_card_3 8 rfl rfl)
theorem dX2_card_79 : decode cX2_card 79 = .ok (.invokevirtual 91, 3) := dk_182 0 91 (dk_at dksX2_card_3 9 rfl rfl)
theorem dX2_card_82 : decode cX2_card 82 = .ok (.aload_n 0, 1) := dk_42 (dk_at dksX2_card_3 12 rfl rfl)
theorem dX2_card_83 : decode cX2_card 83 = .ok (.getfield 33, 3) := dk_180 0 33 (dk_at dksX2_card_3 13 rfl rfl)
theorem dX2_card_86 : decode cX2_card 86 = .ok (.ldc2_w 118, 3) := dk_20 0 118 (dk_at dksX2_card_3 16 rfl rfl)
theorem dX2_card_89 : decode cX2_card 89 = .ok (.lcmp, 1) := dk_148 (dk_at dksX2_card_3 19 rfl rfl)
theorem dX2_card_90 : decode cX2_card 90 = .ok (.ifCond .lt 9, 3) := dk_155 0 9 (dk_at dksX2_card_3 20 rfl rfl)
theorem dX2_card_93 : decode cX2_card 93 = .ok (.aload_n 0, 1) := dk_42 (dk_at dksX2_card_3 23 rfl rfl)
theorem dX2_card_94 : decode cX2_card 94 = .ok (.iconst 4, 1) := dk_7 (dk_at dksX2_card_4 0 rfl rfl)
theorem dX2_card_95 : decode cX2_card 95 = .ok (.invokevirtual 79, 3) := dk_182 0 79 (dk_at dksX2_card_4 1 rfl rfl)
theorem dX2_card_98 : decode cX2_card 98 = .ok (.athrow, 1) := dk_191 (dk_at dksX2_card_4 4 rfl rfl)
theorem dX2_card_99 : decode cX2_card 99 = .ok (.aload_n 2, 1) := dk_44 (dk_at dksX2_card_4 5 rfl rfl)
theorem dX2_card_100 : decode cX2_card 100 = .ok (.getfield 120, 3) := dk_180 0 120 (dk_at dksX2_card_4 6 rfl rfl)
theorem dX2_card_103 : decode cX2_card 103 = .ok (.iload 4, 2) := dk_21 4 (dk_at dksX2_card_4 9 rfl rfl)
theorem dX2_card_105 : decode cX2_card 105 = .ok (.aload_n 0, 1) := dk_42 (dk_at dksX2_card_4 11 rfl rfl)
theorem dX2_card_106 : decode cX2_card 106 = .ok (.getfield 33, 3) := dk_180 0 33 (dk_at dksX2_card_4 12 rfl rfl)
theorem dX2_card_109 : decode cX2_card 109 = .ok (.l2i, 1) := dk_136 (dk_at dksX2_card_4 15 rfl rfl)
theorem dX2_card_110 : decode cX2_card 110 = .ok (.iastore, 1) := dk_79 (dk_at dksX2_card_4 16 rfl rfl)
theorem dX2_card_111 : decode cX2_card 111 = .ok (.aload_n 0, 1) := dk_42 (dk_at dksX2_card_4 17 rfl rfl)
theorem dX2_card_112 : decode cX2_card 112 = .ok (.invokevirtual 85, 3) := dk_182 0 85 (dk_at dksX2_card_4 18 rfl rfl)
theorem dX2_card_115 : decode cX2_card 115 = .ok (.iinc 4 1, 3) := dk_132 4 1 (dk_at dksX2_card_4 21 rfl rfl)
theorem dX2_card_118 : decode cX2_card 118 = .ok (.goto (-59), 3) := dk_167 255 197 (dk_at dksX2_card_5 0 rfl rfl)
theorem dX2_card_121 : decode cX2_card 121 = .ok (.iload_n 1, 1) := dk_27 (dk_at dksX2_card_5 3 rfl rfl)
theorem dX2_card_122 : decode cX2_card 122 = .ok (.ifCond .ne 8, 3) := dk_154 0 8 (dk_at dksX2_card_5 4 rfl rfl)
theorem dX2_card_125 : decode cX2_card 125 = .ok (.aload_n 0, 1) := dk_42 (dk_at dksX2_card_5 7 rfl rfl)
theorem dX2_card_126 : decode cX2_card 126 = .ok (.aload_n 2, 1) := dk_44 (dk_at dksX2_card_5 8 rfl rfl)
theorem dX2_card_127 : decode cX2_card 127 = .ok (.invokevirtual 123, 3) := dk_182 0 123 (dk_at dksX2_card_5 9 rfl rfl)
theorem dX2_card_130 : decode cX2_card 130 = .ok (.aload_n 2, 1) := dk_44 (dk_at dksX2_card_5 12 rfl rfl)
theorem dX2_card_131 : decode cX2_card 131 = .ok (.areturn, 1) := dk_176 (dk_at dksX2_card_5 13 rfl rfl)
abbrev cX2_goes : ByteArray := prog_5_method_15_code
def yX2_goes : MethodName := ⟨RX2, "goes", "(LWheelTables$Card;)V"⟩
def dkwX2_goes_5 : List UInt8 := [167, 0, 4, 5, 181, 0, 137, 42, 182, 0, 85, 177]
abbrev dktX2_goes_5 : List UInt8 := dkwX2_goes_5 ++ []
def dkwX2_goes_4 : List UInt8 := [153, 0, 7, 4, 167, 0, 4, 3, 182, 0, 91, 43, 42, 18, 133, 182, 0, 130, 153, 0, 7, 4]
abbrev dktX2_goes_4 : List UInt8 := dkwX2_goes_4 ++ dktX2_goes_5
def dkwX2_goes_3 : List UInt8 := [154, 0, 4, 177, 42, 182, 0, 85, 42, 42, 18, 133, 182, 0, 130, 154, 0, 12, 42, 18, 135, 182, 0, 130]
abbrev dktX2_goes_3 : List UInt8 := dkwX2_goes_3 ++ dktX2_goes_4
def dkwX2_goes_2 : List UInt8 := [180, 0, 33, 181, 0, 105, 43, 42, 180, 0, 30, 181, 0, 108, 42, 182, 0, 85, 42, 18, 128, 182, 0, 130]
abbrev dktX2_goes_2 : List UInt8 := dkwX2_goes_2 ++ dktX2_goes_3
def dkwX2_goes_1 : List UInt8 := [155, 0, 14, 42, 180, 0, 33, 20, 0, 126, 148, 158, 0, 9, 42, 7, 182, 0, 79, 191, 43, 42]
abbrev dktX2_goes_1 : List UInt8 := dkwX2_goes_1 ++ dktX2_goes_2
def dkwX2_goes_0 : List UInt8 := [42, 42, 180, 0, 37, 6, 160, 0, 7, 4, 167, 0, 4, 3, 182, 0, 91, 42, 180, 0, 33, 10, 148]
abbrev dktX2_goes_0 : List UInt8 := dkwX2_goes_0 ++ dktX2_goes_1
theorem dksX2_goes_0 : cX2_goes.data.toList.drop 0 = dktX2_goes_0 := by decide +kernel
theorem dksX2_goes_1 : cX2_goes.data.toList.drop 23 = dktX2_goes_1 := dk_seg dksX2_goes_0 23 rfl rfl
theorem dksX2_goes_2 : cX2_goes.data.toList.drop 45 = dktX2_goes_2 := dk_seg dksX2_goes_1 22 rfl rfl
theorem dksX2_goes_3 : cX2_goes.data.toList.drop 69 = dktX2_goes_3 := dk_seg dksX2_goes_2 24 rfl rfl
theorem dksX2_goes_4 : cX2_goes.data.toList.drop 93 = dktX2_goes_4 := dk_seg dksX2_goes_3 24 rfl rfl
theorem dksX2_goes_5 : cX2_goes.data.toList.drop 115 = dktX2_goes_5 := dk_seg dksX2_goes_4 22 rfl rfl
theorem dX2_goes_0 : decode cX2_goes 0 = .ok (.aload_n 0, 1) := dk_42 (dk_at dksX2_goes_0 0 rfl rfl)
theorem dX2_goes_1 : decode cX2_goes 1 = .ok (.aload_n 0, 1) := dk_42 (dk_at dksX2_goes_0 1 rfl rfl)
theorem dX2_goes_2 : decode cX2_goes 2 = .ok (.getfield 37, 3) := dk_180 0 37 (dk_at dksX2_goes_0 2 rfl rfl)
theorem dX2_goes_5 : decode cX2_goes 5 = .ok (.iconst 3, 1) := dk_6 (dk_at dksX2_goes_0 5 rfl rfl)
theorem dX2_goes_6 : decode cX2_goes 6 = .ok (.if_icmp .ne 7, 3) := dk_160 0 7 (dk_at dksX2_goes_0 6 rfl rfl)
theorem dX2_goes_9 : decode cX2_goes 9 = .ok (.iconst 1, 1) := dk_4 (dk_at dksX2_goes_0 9 rfl rfl)
theorem dX2_goes_10 : decode cX2_goes 10 = .ok (.goto 4, 3) := dk_167 0 4 (dk_at dksX2_goes_0 10 rfl rfl)
theorem dX2_goes_13 : decode cX2_goes 13 = .ok (.iconst 0, 1) := dk_3 (dk_at dksX2_goes_0 13 rfl rfl)
theorem dX2_goes_14 : decode cX2_goes 14 = .ok (.invokevirtual 91, 3) := dk_182 0 91 (dk_at dksX2_goes_0 14 rfl rfl)
theorem dX2_goes_17 : decode cX2_goes 17 = .ok (.aload_n 0, 1) := dk_42 (dk_at dksX2_goes_0 17 rfl rfl)
theorem dX2_goes_18 : decode cX2_goes 18 = .ok (.getfield 33, 3) := dk_180 0 33 (dk_at dksX2_goes_0 18 rfl rfl)
theorem dX2_goes_21 : decode cX2_goes 21 = .ok (.lconst 1, 1) := dk_10 (dk_at dksX2_goes_0 21 rfl rfl)
theorem dX2_goes_22 : decode cX2_goes 22 = .ok (.lcmp, 1) := dk_148 (dk_at dksX2_goes_0 22 rfl rfl)
theorem dX2_goes_23 : decode cX2_goes 23 = .ok (.ifCond .lt 14, 3) := dk_155 0 14 (dk_at dksX2_goes_1 0 rfl rfl)
theorem dX2_goes_26 : decode cX2_goes 26 = .ok (.aload_n 0, 1) := dk_42 (dk_at dksX2_goes_1 3 rfl rfl)
theorem dX2_goes_27 : decode cX2_goes 27 = .ok (.getfield 33, 3) := dk_180 0 33 (dk_at dksX2_goes_1 4 rfl rfl)
theorem dX2_goes_30 : decode cX2_goes 30 = .ok (.ldc2_w 126, 3) := dk_20 0 126 (dk_at dksX2_goes_1 7 rfl rfl)
theorem dX2_goes_33 : decode cX2_goes 33 = .ok (.lcmp, 1) := dk_148 (dk_at dksX2_goes_1 10 rfl rfl)
theorem dX2_goes_34 : decode cX2_goes 34 = .ok (.ifCond .le 9, 3) := dk_158 0 9 (dk_at dksX2_goes_1 11 rfl rfl)
theorem dX2_goes_37 : decode cX2_goes 37 = .ok (.aload_n 0, 1) := dk_42 (dk_at dksX2_goes_1 14 rfl rfl)
theorem dX2_goes_38 : decode cX2_goes 38 = .ok (.iconst 4, 1) := dk_7 (dk_at dksX2_goes_1 15 rfl rfl)
theorem dX2_goes_39 : decode cX2_goes 39 = .ok (.invokevirtual 79, 3) := dk_182 0 79 (dk_at dksX2_goes_1 16 rfl rfl)
theorem dX2_goes_42 : decode cX2_goes 42 = .ok (.athrow, 1) := dk_191 (dk_at dksX2_goes_1 19 rfl rfl)
theorem dX2_goes_43 : decode cX2_goes 43 = .ok (.aload_n 1, 1) := dk_43 (dk_at dksX2_goes_1 20 rfl rfl)
theorem dX2_goes_44 : decode cX2_goes 44 = .ok (.aload_n 0, 1) := dk_42 (dk_at dksX2_goes_1 21 rfl rfl)
theorem dX2_goes_45 : decode cX2_goes 45 = .ok (.getfield 33, 3) := dk_180 0 33 (dk_at dksX2_goes_2 0 rfl rfl)
theorem dX2_goes_48 : decode cX2_goes 48 = .ok (.putfield 105, 3) := dk_181 0 105 (dk_at dksX2_goes_2 3 rfl rfl)
theorem dX2_goes_51 : decode cX2_goes 51 = .ok (.aload_n 1, 1) := dk_43 (dk_at dksX2_goes_2 6 rfl rfl)
theorem dX2_goes_52 : decode cX2_goes 52 = .ok (.aload_n 0, 1) := dk_42 (dk_at dksX2_goes_2 7 rfl rfl)
theorem dX2_goes_53 : decode cX2_goes 53 = .ok (.getfield 30, 3) := dk_180 0 30 (dk_at dksX2_goes_2 8 rfl rfl)
theorem dX2_goes_56 : decode cX2_goes 56 = .ok (.putfield 108, 3) := dk_181 0 108 (dk_at dksX2_goes_2 11 rfl rfl)
theorem dX2_goes_59 : decode cX2_goes 59 = .ok (.aload_n 0, 1) := dk_42 (dk_at dksX2_goes_2 14 rfl rfl)
theorem dX2_goes_60 : decode cX2_goes 60 = .ok (.invokevirtual 85, 3) := dk_182 0 85 (dk_at dksX2_goes_2 15 rfl rfl)
theorem dX2_goes_63 : decode cX2_goes 63 = .ok (.aload_n 0, 1) := dk_42 (dk_at dksX2_goes_2 18 rfl rfl)
theorem dX2_goes_64 : decode cX2_goes 64 = .ok (.ldc 128, 2) := dk_18 128 (dk_at dksX2_goes_2 19 rfl rfl)
theorem dX2_goes_66 : decode cX2_goes 66 = .ok (.invokevirtual 130, 3) := dk_182 0 130 (dk_at dksX2_goes_2 21 rfl rfl)
theorem dX2_goes_69 : decode cX2_goes 69 = .ok (.ifCond .ne 4, 3) := dk_154 0 4 (dk_at dksX2_goes_3 0 rfl rfl)
theorem dX2_goes_72 : decode cX2_goes 72 = .ok (.return_, 1) := dk_177 (dk_at dksX2_goes_3 3 rfl rfl)
theorem dX2_goes_73 : decode cX2_goes 73 = .ok (.aload_n 0, 1) := dk_42 (dk_at dksX2_goes_3 4 rfl rfl)
theorem dX2_goes_74 : decode cX2_goes 74 = .ok (.invokevirtual 85, 3) := dk_182 0 85 (dk_at dksX2_goes_3 5 rfl rfl)
theorem dX2_goes_77 : decode cX2_goes 77 = .ok (.aload_n 0, 1) := dk_42 (dk_at dksX2_goes_3 8 rfl rfl)
theorem dX2_goes_78 : decode cX2_goes 78 = .ok (.aload_n 0, 1) := dk_42 (dk_at dksX2_goes_3 9 rfl rfl)
theorem dX2_goes_79 : decode cX2_goes 79 = .ok (.ldc 133, 2) := dk_18 133 (dk_at dksX2_goes_3 10 rfl rfl)
theorem dX2_goes_81 : decode cX2_goes 81 = .ok (.invokevirtual 130, 3) := dk_182 0 130 (dk_at dksX2_goes_3 12 rfl rfl)
theorem dX2_goes_84 : decode cX2_goes 84 = .ok (.ifCond .ne 12, 3) := dk_154 0 12 (dk_at dksX2_goes_3 15 rfl rfl)
theorem dX2_goes_87 : decode cX2_goes 87 = .ok (.aload_n 0, 1) := dk_42 (dk_at dksX2_goes_3 18 rfl rfl)
theorem dX2_goes_88 : decode cX2_goes 88 = .ok (.ldc 135, 2) := dk_18 135 (dk_at dksX2_goes_3 19 rfl rfl)
theorem dX2_goes_90 : decode cX2_goes 90 = .ok (.invokevirtual 130, 3) := dk_182 0 130 (dk_at dksX2_goes_3 21 rfl rfl)
theorem dX2_goes_93 : decode cX2_goes 93 = .ok (.ifCond .eq 7, 3) := dk_153 0 7 (dk_at dksX2_goes_4 0 rfl rfl)
theorem dX2_goes_96 : decode cX2_goes 96 = .ok (.iconst 1, 1) := dk_4 (dk_at dksX2_goes_4 3 rfl rfl)
theorem dX2_goes_97 : decode cX2_goes 97 = .ok (.goto 4, 3) := dk_167 0 4 (dk_at dksX2_goes_4 4 rfl rfl)
theorem dX2_goes_100 : decode cX2_goes 100 = .ok (.iconst 0, 1) := dk_3 (dk_at dksX2_goes_4 7 rfl rfl)
theorem dX2_goes_101 : decode cX2_goes 101 = .ok (.invokevirtual 91, 3) := dk_182 0 91 (dk_at dksX2_goes_4 8 rfl rfl)
theorem dX2_goes_104 : decode cX2_goes 104 = .ok (.aload_n 1, 1) := dk_43 (dk_at dksX2_goes_4 11 rfl rfl)
theorem dX2_goes_105 : decode cX2_goes 105 = .ok (.aload_n 0, 1) := dk_42 (dk_at dksX2_goes_4 12 rfl rfl)
theorem dX2_goes_106 : decode cX2_goes 106 = .ok (.ldc 133, 2) := dk_18 133 (dk_at dksX2_goes_4 13 rfl rfl)
theorem dX2_goes_108 : decode cX2_goes 108 = .ok (.invokevirtual 130, 3) := dk_182 0 130 (dk_at dksX2_goes_4 15 rfl rfl)
theorem dX2_goes_111 : decode cX2_goes 111 = .ok (.ifCond .eq 7, 3) := dk_153 0 7 (dk_at dksX2_goes_4 18 rfl rfl)
theorem dX2_goes_114 : decode cX2_goes 114 = .ok (.iconst 1, 1) := dk_4 (dk_at dksX2_goes_4 21 rfl rfl)
theorem dX2_goes_115 : decode cX2_goes 115 = .ok (.goto 4, 3) := dk_167 0 4 (dk_at dksX2_goes_5 0 rfl rfl)
theorem dX2_goes_118 : decode cX2_goes 118 = .ok (.iconst 2, 1) := dk_5 (dk_at dksX2_goes_5 3 rfl rfl)
theorem dX2_goes_119 : decode cX2_goes 119 = .ok (.putfield 137, 3) := dk_181 0 137 (dk_at dksX2_goes_5 4 rfl rfl)
theorem dX2_goes_122 : decode cX2_goes 122 = .ok (.aload_n 0, 1) := dk_42 (dk_at dksX2_goes_5 7 rfl rfl)
theorem dX2_goes_123 : decode cX2_goes 123 = .ok (.invokevirtual 85, 3) := dk_182 0 85 (dk_at dksX2_goes_5 8 rfl rfl)
theorem dX2_goes_126 : decode cX2_goes 126 = .ok (.return_, 1) := dk_177 (dk_at dksX2_goes_5 11 rfl rfl)
abbrev cX2_is_2 : ByteArray := prog_5_method_8_code
def yX2_is_2 : MethodName := ⟨RX2, "is", "(Ljava/lang/String;)Z"⟩
def dkwX2_is_2_0 : List UInt8 := [42, 43, 3, 43, 182, 0, 65, 182, 0, 69, 172]
abbrev dktX2_is_2_0 : List UInt8 := dkwX2_is_2_0 ++ []
theorem dksX2_is_2_0 : cX2_is_2.data.toList.drop 0 = dktX2_is_2_0 := by decide +kernel
theorem dX2_is_2_0 : decode cX2_is_2 0 = .ok (.aload_n 0, 1) := dk_42 (dk_at dksX2_is_2_0 0 rfl rfl)
theorem dX2_is_2_1 : decode cX2_is_2 1 = .ok (.aload_n 1, 1) := dk_43 (dk_at dksX2_is_2_0 1 rfl rfl)
theorem dX2_is_2_2 : decode cX2_is_2 2 = .ok (.iconst 0, 1) := dk_3 (dk_at dksX2_is_2_0 2 rfl rfl)
theorem dX2_is_2_3 : decode cX2_is_2 3 = .ok (.aload_n 1, 1) := dk_43 (dk_at dksX2_is_2_0 3 rfl rfl)
theorem dX2_is_2_4 : decode cX2_is_2 4 = .ok (.invokevirtual 65, 3) := dk_182 0 65 (dk_at dksX2_is_2_0 4 rfl rfl)
theorem dX2_is_2_7 : decode cX2_is_2 7 = .ok (.invokevirtual 69, 3) := dk_182 0 69 (dk_at dksX2_is_2_0 7 rfl rfl)
theorem dX2_is_2_10 : decode cX2_is_2 10 = .ok (.ireturn, 1) := dk_172 (dk_at dksX2_is_2_0 10 rfl rfl)
abbrev cX2_whole : ByteArray := prog_5_method_14_code
def yX2_whole : MethodName := ⟨RX2, "whole", "(LWheelTables$Card;)V"⟩
def dkwX2_whole_2 : List UInt8 := [180, 0, 33, 181, 0, 105, 42, 182, 0, 85, 177]
abbrev dktX2_whole_2 : List UInt8 := dkwX2_whole_2 ++ []
def dkwX2_whole_1 : List UInt8 := [4, 167, 0, 4, 3, 182, 0, 91, 43, 28, 153, 0, 11, 42, 180, 0, 33, 117, 167, 0, 7, 42]
abbrev dktX2_whole_1 : List UInt8 := dkwX2_whole_1 ++ dktX2_whole_2
def dkwX2_whole_0 : List UInt8 := [42, 16, 45, 182, 0, 99, 61, 28, 153, 0, 7, 42, 182, 0, 85, 42, 42, 180, 0, 37, 6, 160, 0, 7]
abbrev dktX2_whole_0 : List UInt8 := dkwX2_whole_0 ++ dktX2_whole_1
theorem dksX2_whole_0 : cX2_whole.data.toList.drop 0 = dktX2_whole_0 := by decide +kernel
theorem dksX2_whole_1 : cX2_whole.data.toList.drop 24 = dktX2_whole_1 := dk_seg dksX2_whole_0 24 rfl rfl
theorem dksX2_whole_2 : cX2_whole.data.toList.drop 46 = dktX2_whole_2 := dk_seg dksX2_whole_1 22 rfl rfl
theorem dX2_whole_0 : decode cX2_whole 0 = .ok (.aload_n 0, 1) := dk_42 (dk_at dksX2_whole_0 0 rfl rfl)
theorem dX2_whole_1 : decode cX2_whole 1 = .ok (.bipush 45, 2) := dk_16 45 (dk_at dksX2_whole_0 1 rfl rfl)
theorem dX2_whole_3 : decode cX2_whole 3 = .ok (.invokevirtual 99, 3) := dk_182 0 99 (dk_at dksX2_whole_0 3 rfl rfl)
theorem dX2_whole_6 : decode cX2_whole 6 = .ok (.istore_n 2, 1) := dk_61 (dk_at dksX2_whole_0 6 rfl rfl)
theorem dX2_whole_7 : decode cX2_whole 7 = .ok (.iload_n 2, 1) := dk_28 (dk_at dksX2_whole_0 7 rfl rfl)
theorem dX2_whole_8 : decode cX2_whole 8 = .ok (.ifCond .eq 7, 3) := dk_153 0 7 (dk_at dksX2_whole_0 8 rfl rfl)
theorem dX2_whole_11 : decode cX2_whole 11 = .ok (.aload_n 0, 1) := dk_42 (dk_at dksX2_whole_0 11 rfl rfl)
theorem dX2_whole_12 : decode cX2_whole 12 = .ok (.invokevirtual 85, 3) := dk_182 0 85 (dk_at dksX2_whole_0 12 rfl rfl)
theorem dX2_whole_15 : decode cX2_whole 15 = .ok (.aload_n 0, 1) := dk_42 (dk_at dksX2_whole_0 15 rfl rfl)
theorem dX2_whole_16 : decode cX2_whole 16 = .ok (.aload_n 0, 1) := dk_42 (dk_at dksX2_whole_0 16 rfl rfl)
theorem dX2_whole_17 : decode cX2_whole 17 = .ok (.getfield 37, 3) := dk_180 0 37 (dk_at dksX2_whole_0 17 rfl rfl)
theorem dX2_whole_20 : decode cX2_whole 20 = .ok (.iconst 3, 1) := dk_6 (dk_at dksX2_whole_0 20 rfl rfl)
theorem dX2_whole_21 : decode cX2_whole 21 = .ok (.if_icmp .ne 7, 3) := dk_160 0 7 (dk_at dksX2_whole_0 21 rfl rfl)
theorem dX2_whole_24 : decode cX2_whole 24 = .ok (.iconst 1, 1) := dk_4 (dk_at dksX2_whole_1 0 rfl rfl)
theorem dX2_whole_25 : decode cX2_whole 25 = .ok (.goto 4, 3) := dk_167 0 4 (dk_at dksX2_whole_1 1 rfl rfl)
theorem dX2_whole_28 : decode cX2_whole 28 = .ok (.iconst 0, 1) := dk_3 (dk_at dksX2_whole_1 4 rfl rfl)
theorem dX2_whole_29 : decode cX2_whole 29 = .ok (.invokevirtual 91, 3) := dk_182 0 91 (dk_at dksX2_whole_1 5 rfl rfl)
theorem dX2_whole_32 : decode cX2_whole 32 = .ok (.aload_n 1, 1) := dk_43 (dk_at dksX2_whole_1 8 rfl rfl)
theorem dX2_whole_33 : decode cX2_whole 33 = .ok (.iload_n 2, 1) := dk_28 (dk_at dksX2_whole_1 9 rfl rfl)
theorem dX2_whole_34 : decode cX2_whole 34 = .ok (.ifCond .eq 11, 3) := dk_153 0 11 (dk_at dksX2_whole_1 10 rfl rfl)
theorem dX2_whole_37 : decode cX2_whole 37 = .ok (.aload_n 0, 1) := dk_42 (dk_at dksX2_whole_1 13 rfl rfl)
theorem dX2_whole_38 : decode cX2_whole 38 = .ok (.getfield 33, 3) := dk_180 0 33 (dk_at dksX2_whole_1 14 rfl rfl)
theorem dX2_whole_41 : decode cX2_whole 41 = .ok (.lneg, 1) := dk_117 (dk_at dksX2_whole_1 17 rfl rfl)
theorem dX2_whole_42 : decode cX2_whole 42 = .ok (.goto 7, 3) := dk_167 0 7 (dk_at dksX2_whole_1 18 rfl rfl)
theorem dX2_whole_45 : decode cX2_whole 45 = .ok (.aload_n 0, 1) := dk_42 (dk_at dksX2_whole_1 21 rfl rfl)
theorem dX2_whole_46 : decode cX2_whole 46 = .ok (.getfield 33, 3) := dk_180 0 33 (dk_at dksX2_whole_2 0 rfl rfl)
theorem dX2_whole_49 : decode cX2_whole 49 = .ok (.putfield 105, 3) := dk_181 0 105 (dk_at dksX2_whole_2 3 rfl rfl)
theorem dX2_whole_52 : decode cX2_whole 52 = .ok (.aload_n 0, 1) := dk_42 (dk_at dksX2_whole_2 6 rfl rfl)
theorem dX2_whole_53 : decode cX2_whole 53 = .ok (.invokevirtual 85, 3) := dk_182 0 85 (dk_at dksX2_whole_2 7 rfl rfl)
theorem dX2_whole_56 : decode cX2_whole 56 = .ok (.return_, 1) := dk_177 (dk_at dksX2_whole_2 10 rfl rfl)
abbrev cX2_is_3 : ByteArray := prog_5_method_6_code
def yX2_is_3 : MethodName := ⟨RX2, "is", "(I)Z"⟩
def dkwX2_is_3_0 : List UInt8 := [42, 180, 0, 37, 7, 160, 0, 17, 42, 180, 0, 33, 27, 133, 148, 154, 0, 7, 4, 167, 0, 4, 3, 172]
abbrev dktX2_is_3_0 : List UInt8 := dkwX2_is_3_0 ++ []
theorem dksX2_is_3_0 : cX2_is_3.data.toList.drop 0 = dktX2_is_3_0 := by decide +kernel
theorem dX2_is_3_0 : decode cX2_is_3 0 = .ok (.aload_n 0, 1) := dk_42 (dk_at dksX2_is_3_0 0 rfl rfl)
theorem dX2_is_3_1 : decode cX2_is_3 1 = .ok (.getfield 37, 3) := dk_180 0 37 (dk_at dksX2_is_3_0 1 rfl rfl)
theorem dX2_is_3_4 : decode cX2_is_3 4 = .ok (.iconst 4, 1) := dk_7 (dk_at dksX2_is_3_0 4 rfl rfl)
theorem dX2_is_3_5 : decode cX2_is_3 5 = .ok (.if_icmp .ne 17, 3) := dk_160 0 17 (dk_at dksX2_is_3_0 5 rfl rfl)
theorem dX2_is_3_8 : decode cX2_is_3 8 = .ok (.aload_n 0, 1) := dk_42 (dk_at dksX2_is_3_0 8 rfl rfl)
theorem dX2_is_3_9 : decode cX2_is_3 9 = .ok (.getfield 33, 3) := dk_180 0 33 (dk_at dksX2_is_3_0 9 rfl rfl)
theorem dX2_is_3_12 : decode cX2_is_3 12 = .ok (.iload_n 1, 1) := dk_27 (dk_at dksX2_is_3_0 12 rfl rfl)
theorem dX2_is_3_13 : decode cX2_is_3 13 = .ok (.i2l, 1) := dk_133 (dk_at dksX2_is_3_0 13 rfl rfl)
theorem dX2_is_3_14 : decode cX2_is_3 14 = .ok (.lcmp, 1) := dk_148 (dk_at dksX2_is_3_0 14 rfl rfl)
theorem dX2_is_3_15 : decode cX2_is_3 15 = .ok (.ifCond .ne 7, 3) := dk_154 0 7 (dk_at dksX2_is_3_0 15 rfl rfl)
theorem dX2_is_3_18 : decode cX2_is_3 18 = .ok (.iconst 1, 1) := dk_4 (dk_at dksX2_is_3_0 18 rfl rfl)
theorem dX2_is_3_19 : decode cX2_is_3 19 = .ok (.goto 4, 3) := dk_167 0 4 (dk_at dksX2_is_3_0 19 rfl rfl)
theorem dX2_is_3_22 : decode cX2_is_3 22 = .ok (.iconst 0, 1) := dk_3 (dk_at dksX2_is_3_0 22 rfl rfl)
theorem dX2_is_3_23 : decode cX2_is_3 23 = .ok (.ireturn, 1) := dk_172 (dk_at dksX2_is_3_0 23 rfl rfl)
theorem q100 : (Jvm.Cond.initialized "WheelTables$Reader") ∈ lw_all := lw_g (lw_at lw_m1 6 rfl) rfl
theorem q219 : (Jvm.Cond.instantiable "WheelTables$Reader" (8 : Nat)) ∈ lw_all := lw_g (lw_at lw_m1 125 rfl) rfl
theorem q221 : (Jvm.Cond.instanceMethod ({ cls := "WheelTables$Reader", name := "<init>", desc := "(LWheelTables$Wrong;)V" } : Jvm.MethodName)) ∈ lw_all := lw_g (lw_at lw_m1 127 rfl) rfl
theorem q222 : (Jvm.Cond.code ({ cls := "WheelTables$Reader", name := "<init>", desc := "(LWheelTables$Wrong;)V" } : Jvm.MethodName) prog_5_method_1_code (2 : Nat) (Option.none : Option Jvm.ClassFile.FieldType)) ∈ lw_all := lw_g (lw_at lw_m1 128 rfl) rfl
theorem q223 : (Jvm.Cond.methodLink "WheelTables$Reader" (3 : Nat) ({ cls := "java/lang/Object", name := "<init>", desc := "()V" } : Jvm.MethodName)) ∈ lw_all := lw_g (lw_at lw_m1 129 rfl) rfl
theorem q224 : (Jvm.Cond.fieldLink "WheelTables$Reader" (9 : Nat) "WheelTables$Reader" "tape" "[B") ∈ lw_all := lw_g (lw_at lw_m1 130 rfl) rfl
theorem q227 : (Jvm.Cond.fieldLink "WheelTables$Reader" (19 : Nat) "WheelTables$Reader" "size" "I") ∈ lw_all := lw_g (lw_at lw_m1 133 rfl) rfl
theorem q228 : (Jvm.Cond.fieldLink "WheelTables$Reader" (37 : Nat) "WheelTables$Reader" "sort" "I") ∈ lw_all := lw_g (lw_at lw_m1 134 rfl) rfl
theorem q229 : (Jvm.Cond.fieldLink "WheelTables$Reader" (30 : Nat) "WheelTables$Reader" "from" "I") ∈ lw_all := lw_g (lw_at lw_m1 135 rfl) rfl
theorem q230 : (Jvm.Cond.fieldLink "WheelTables$Reader" (23 : Nat) "WheelTables$Reader" "end" "I") ∈ lw_all := lw_g (lw_at lw_m1 136 rfl) rfl
theorem q231 : (Jvm.Cond.fieldLink "WheelTables$Reader" (33 : Nat) "WheelTables$Reader" "value" "J") ∈ lw_all := lw_g (lw_at lw_m1 137 rfl) rfl
theorem q232 : (Jvm.Cond.fieldLink "WheelTables$Reader" (15 : Nat) "WheelTables$Reader" "wrong" "LWheelTables$Wrong;") ∈ lw_all := lw_g (lw_at lw_m1 138 rfl) rfl
theorem q233 : (Jvm.Cond.laysFinal "WheelTables$Reader" "WheelTables$Reader" "tape" "[B") ∈ lw_all := lw_g (lw_at lw_m1 139 rfl) rfl
theorem q234 : (Jvm.Cond.soleField "WheelTables$Reader" "tape") ∈ lw_all := lw_g (lw_at lw_m1 140 rfl) rfl
theorem q235 : (Jvm.Cond.lays "WheelTables$Reader" "WheelTables$Reader" "taped" "I") ∈ lw_all := lw_g (lw_at lw_m1 141 rfl) rfl
theorem q236 : (Jvm.Cond.soleField "WheelTables$Reader" "taped") ∈ lw_all := lw_g (lw_at lw_m1 142 rfl) rfl
theorem q237 : (Jvm.Cond.lays "WheelTables$Reader" "WheelTables$Reader" "size" "I") ∈ lw_all := lw_g (lw_at lw_m1 143 rfl) rfl
theorem q238 : (Jvm.Cond.soleField "WheelTables$Reader" "size") ∈ lw_all := lw_g (lw_at lw_m1 144 rfl) rfl
theorem q239 : (Jvm.Cond.lays "WheelTables$Reader" "WheelTables$Reader" "sort" "I") ∈ lw_all := lw_g (lw_at lw_m1 145 rfl) rfl
theorem q240 : (Jvm.Cond.soleField "WheelTables$Reader" "sort") ∈ lw_all := lw_g (lw_at lw_m1 146 rfl) rfl
theorem q241 : (Jvm.Cond.lays "WheelTables$Reader" "WheelTables$Reader" "from" "I") ∈ lw_all := lw_g (lw_at lw_m1 147 rfl) rfl
theorem q242 : (Jvm.Cond.soleField "WheelTables$Reader" "from") ∈ lw_all := lw_g (lw_at lw_m1 148 rfl) rfl
theorem q243 : (Jvm.Cond.lays "WheelTables$Reader" "WheelTables$Reader" "end" "I") ∈ lw_all := lw_g (lw_at lw_m1 149 rfl) rfl
theorem q244 : (Jvm.Cond.soleField "WheelTables$Reader" "end") ∈ lw_all := lw_g (lw_at lw_m1 150 rfl) rfl
theorem q245 : (Jvm.Cond.lays "WheelTables$Reader" "WheelTables$Reader" "value" "J") ∈ lw_all := lw_g (lw_at lw_m1 151 rfl) rfl
theorem q246 : (Jvm.Cond.soleField "WheelTables$Reader" "value") ∈ lw_all := lw_g (lw_at lw_m1 152 rfl) rfl
theorem q247 : (Jvm.Cond.laysFinal "WheelTables$Reader" "WheelTables$Reader" "wrong" "LWheelTables$Wrong;") ∈ lw_all := lw_g (lw_at lw_m1 153 rfl) rfl
theorem q248 : (Jvm.Cond.soleField "WheelTables$Reader" "wrong") ∈ lw_all := lw_g (lw_at lw_m1 154 rfl) rfl
theorem q249 : (Jvm.Cond.superclass "WheelTables$Reader" "java/lang/Object") ∈ lw_all := lw_g (lw_at lw_m1 155 rfl) rfl
theorem q787 : (Jvm.Cond.instanceMethod ({ cls := "WheelTables$Reader", name := "read", desc := "(I[LWheelTables$Card;)I" } : Jvm.MethodName)) ∈ lw_all := lw_g (lw_at lw_m3 213 rfl) rfl
theorem q788 : (Jvm.Cond.selects "WheelTables$Reader" ({ cls := "WheelTables$Reader", name := "read", desc := "(I[LWheelTables$Card;)I" } : Jvm.MethodName) ({ cls := "WheelTables$Reader", name := "read", desc := "(I[LWheelTables$Card;)I" } : Jvm.MethodName)) ∈ lw_all := lw_g (lw_at lw_m3 214 rfl) rfl
theorem q789 : (Jvm.Cond.code ({ cls := "WheelTables$Reader", name := "read", desc := "(I[LWheelTables$Card;)I" } : Jvm.MethodName) prog_5_method_12_code (5 : Nat) (Option.some Jvm.ClassFile.FieldType.int)) ∈ lw_all := lw_g (lw_at lw_m3 215 rfl) rfl
theorem q790 : (Jvm.Cond.methodLink "WheelTables$Reader" (85 : Nat) ({ cls := "WheelTables$Reader", name := "next", desc := "()V" } : Jvm.MethodName)) ∈ lw_all := lw_g (lw_at lw_m3 216 rfl) rfl
theorem q791 : (Jvm.Cond.privateMethod ({ cls := "WheelTables$Reader", name := "next", desc := "()V" } : Jvm.MethodName)) ∈ lw_tbl := lw_at lw_m3 217 rfl
theorem q792 : (Jvm.Cond.instanceMethod ({ cls := "WheelTables$Reader", name := "next", desc := "()V" } : Jvm.MethodName)) ∈ lw_all := lw_g (lw_at lw_m3 218 rfl) rfl
theorem q793 : (Jvm.Cond.code ({ cls := "WheelTables$Reader", name := "next", desc := "()V" } : Jvm.MethodName) prog_5_method_5_code (2 : Nat) (Option.none : Option Jvm.ClassFile.FieldType)) ∈ lw_all := lw_g (lw_at lw_m3 219 rfl) rfl
theorem q794 : (Jvm.Cond.methodLink "WheelTables$Reader" (26 : Nat) ({ cls := "WheelTables$Reader", name := "at", desc := "(I)I" } : Jvm.MethodName)) ∈ lw_all := lw_g (lw_at lw_m3 220 rfl) rfl
theorem q795 : (Jvm.Cond.privateMethod ({ cls := "WheelTables$Reader", name := "at", desc := "(I)I" } : Jvm.MethodName)) ∈ lw_tbl := lw_at lw_m3 221 rfl
theorem q796 : (Jvm.Cond.instanceMethod ({ cls := "WheelTables$Reader", name := "at", desc := "(I)I" } : Jvm.MethodName)) ∈ lw_all := lw_g (lw_at lw_m3 222 rfl) rfl
theorem q797 : (Jvm.Cond.code ({ cls := "WheelTables$Reader", name := "at", desc := "(I)I" } : Jvm.MethodName) prog_5_method_2_code (2 : Nat) (Option.some Jvm.ClassFile.FieldType.int)) ∈ lw_all := lw_g (lw_at lw_m3 223 rfl) rfl
theorem q798 : (Jvm.Cond.methodLink "WheelTables$Reader" (40 : Nat) ({ cls := "WheelTables$Reader", name := "isSmall", desc := "(I)Z" } : Jvm.MethodName)) ∈ lw_all := lw_g (lw_at lw_m3 224 rfl) rfl
theorem q799 : (Jvm.Cond.static ({ cls := "WheelTables$Reader", name := "isSmall", desc := "(I)Z" } : Jvm.MethodName)) ∈ lw_all := lw_g (lw_at lw_m3 225 rfl) rfl
theorem q800 : (Jvm.Cond.code ({ cls := "WheelTables$Reader", name := "isSmall", desc := "(I)Z" } : Jvm.MethodName) prog_5_method_4_code (1 : Nat) (Option.some Jvm.ClassFile.FieldType.boolean)) ∈ lw_all := lw_g (lw_at lw_m3 226 rfl) rfl
theorem q801 : (Jvm.Cond.methodLink "WheelTables$Reader" (44 : Nat) ({ cls := "WheelTables$Reader", name := "isDigit", desc := "(I)Z" } : Jvm.MethodName)) ∈ lw_all := lw_g (lw_at lw_m3 227 rfl) rfl
theorem q802 : (Jvm.Cond.static ({ cls := "WheelTables$Reader", name := "isDigit", desc := "(I)Z" } : Jvm.MethodName)) ∈ lw_all := lw_g (lw_at lw_m3 228 rfl) rfl
theorem q803 : (Jvm.Cond.code ({ cls := "WheelTables$Reader", name := "isDigit", desc := "(I)Z" } : Jvm.MethodName) prog_5_method_3_code (1 : Nat) (Option.some Jvm.ClassFile.FieldType.boolean)) ∈ lw_all := lw_g (lw_at lw_m3 229 rfl) rfl
theorem q804 : (Jvm.Cond.constantLong "WheelTables$Reader" (47 : Nat) (1000000000000 : Int64)) ∈ lw_all := lw_g (lw_at lw_m3 230 rfl) rfl
theorem q805 : (Jvm.Cond.constantLong "WheelTables$Reader" (49 : Nat) (10 : Int64)) ∈ lw_all := lw_g (lw_at lw_m3 231 rfl) rfl
theorem q806 : (Jvm.Cond.constantLong "WheelTables$Reader" (51 : Nat) (48 : Int64)) ∈ lw_all := lw_g (lw_at lw_m3 232 rfl) rfl
theorem q807 : (Jvm.Cond.methodLink "WheelTables$Reader" (53 : Nat) ({ cls := "java/lang/Math", name := "min", desc := "(JJ)J" } : Jvm.MethodName)) ∈ lw_all := lw_g (lw_at lw_m3 233 rfl) rfl
theorem q810 : (Jvm.Cond.methodLink "WheelTables$Reader" (88 : Nat) ({ cls := "WheelTables$Reader", name := "kind", desc := "()I" } : Jvm.MethodName)) ∈ lw_all := lw_g (lw_at lw_m3 236 rfl) rfl
theorem q811 : (Jvm.Cond.privateMethod ({ cls := "WheelTables$Reader", name := "kind", desc := "()I" } : Jvm.MethodName)) ∈ lw_tbl := lw_at lw_m3 237 rfl
theorem q812 : (Jvm.Cond.instanceMethod ({ cls := "WheelTables$Reader", name := "kind", desc := "()I" } : Jvm.MethodName)) ∈ lw_all := lw_g (lw_at lw_m3 238 rfl) rfl
theorem q813 : (Jvm.Cond.code ({ cls := "WheelTables$Reader", name := "kind", desc := "()I" } : Jvm.MethodName) prog_5_method_11_code (4 : Nat) (Option.some Jvm.ClassFile.FieldType.int)) ∈ lw_all := lw_g (lw_at lw_m3 239 rfl) rfl
theorem q814 : (Jvm.Cond.stringRef "WheelTables$Reader" (83 : Nat) " put add sub mul div print back on ") ∈ lw_tbl := lw_at lw_m4 0 rfl
theorem q815 : (Jvm.Cond.methodLink "WheelTables$Reader" (65 : Nat) ({ cls := "java/lang/String", name := "length", desc := "()I" } : Jvm.MethodName)) ∈ lw_all := lw_g (lw_at lw_m4 1 rfl) rfl
theorem q825 : (Jvm.Cond.methodLink "WheelTables$Reader" (59 : Nat) ({ cls := "java/lang/String", name := "charAt", desc := "(I)C" } : Jvm.MethodName)) ∈ lw_all := lw_g (lw_at lw_m4 11 rfl) rfl
theorem q863 : (Jvm.Cond.methodLink "WheelTables$Reader" (69 : Nat) ({ cls := "WheelTables$Reader", name := "is", desc := "(Ljava/lang/String;II)Z" } : Jvm.MethodName)) ∈ lw_all := lw_g (lw_at lw_m4 49 rfl) rfl
theorem q864 : (Jvm.Cond.privateMethod ({ cls := "WheelTables$Reader", name := "is", desc := "(Ljava/lang/String;II)Z" } : Jvm.MethodName)) ∈ lw_tbl := lw_at lw_m4 50 rfl
theorem q865 : (Jvm.Cond.instanceMethod ({ cls := "WheelTables$Reader", name := "is", desc := "(Ljava/lang/String;II)Z" } : Jvm.MethodName)) ∈ lw_all := lw_g (lw_at lw_m4 51 rfl) rfl
theorem q866 : (Jvm.Cond.code ({ cls := "WheelTables$Reader", name := "is", desc := "(Ljava/lang/String;II)Z" } : Jvm.MethodName) prog_5_method_7_code (5 : Nat) (Option.some Jvm.ClassFile.FieldType.boolean)) ∈ lw_all := lw_g (lw_at lw_m4 52 rfl) rfl
theorem q867 : (Jvm.Cond.methodLink "WheelTables$Reader" (91 : Nat) ({ cls := "WheelTables$Reader", name := "need", desc := "(Z)V" } : Jvm.MethodName)) ∈ lw_all := lw_g (lw_at lw_m4 53 rfl) rfl
theorem q868 : (Jvm.Cond.privateMethod ({ cls := "WheelTables$Reader", name := "need", desc := "(Z)V" } : Jvm.MethodName)) ∈ lw_tbl := lw_at lw_m4 54 rfl
theorem q869 : (Jvm.Cond.instanceMethod ({ cls := "WheelTables$Reader", name := "need", desc := "(Z)V" } : Jvm.MethodName)) ∈ lw_all := lw_g (lw_at lw_m4 55 rfl) rfl
theorem q870 : (Jvm.Cond.code ({ cls := "WheelTables$Reader", name := "need", desc := "(Z)V" } : Jvm.MethodName) prog_5_method_10_code (2 : Nat) (Option.none : Option Jvm.ClassFile.FieldType)) ∈ lw_all := lw_g (lw_at lw_m4 56 rfl) rfl
theorem q871 : (Jvm.Cond.methodLink "WheelTables$Reader" (79 : Nat) ({ cls := "WheelTables$Reader", name := "fail", desc := "(I)LWheelTables$Wrong;" } : Jvm.MethodName)) ∈ lw_all := lw_g (lw_at lw_m4 57 rfl) rfl
theorem q872 : (Jvm.Cond.privateMethod ({ cls := "WheelTables$Reader", name := "fail", desc := "(I)LWheelTables$Wrong;" } : Jvm.MethodName)) ∈ lw_tbl := lw_at lw_m4 58 rfl
theorem q873 : (Jvm.Cond.instanceMethod ({ cls := "WheelTables$Reader", name := "fail", desc := "(I)LWheelTables$Wrong;" } : Jvm.MethodName)) ∈ lw_all := lw_g (lw_at lw_m4 59 rfl) rfl
theorem q874 : (Jvm.Cond.code ({ cls := "WheelTables$Reader", name := "fail", desc := "(I)LWheelTables$Wrong;" } : Jvm.MethodName) prog_5_method_9_code (2 : Nat) (Option.some (Jvm.ClassFile.FieldType.object "WheelTables$Wrong"))) ∈ lw_all := lw_g (lw_at lw_m4 60 rfl) rfl
theorem q875 : (Jvm.Cond.methodLink "WheelTables$Reader" (73 : Nat) ({ cls := "WheelTables$Wrong", name := "of", desc := "(II)LWheelTables$Wrong;" } : Jvm.MethodName)) ∈ lw_all := lw_g (lw_at lw_m4 61 rfl) rfl
theorem q879 : (Jvm.Cond.methodLink "WheelTables$Reader" (95 : Nat) ({ cls := "WheelTables$Reader", name := "card", desc := "(I)LWheelTables$Card;" } : Jvm.MethodName)) ∈ lw_all := lw_g (lw_at lw_m4 65 rfl) rfl
theorem q880 : (Jvm.Cond.privateMethod ({ cls := "WheelTables$Reader", name := "card", desc := "(I)LWheelTables$Card;" } : Jvm.MethodName)) ∈ lw_tbl := lw_at lw_m4 66 rfl
theorem q881 : (Jvm.Cond.instanceMethod ({ cls := "WheelTables$Reader", name := "card", desc := "(I)LWheelTables$Card;" } : Jvm.MethodName)) ∈ lw_all := lw_g (lw_at lw_m4 67 rfl) rfl
theorem q882 : (Jvm.Cond.code ({ cls := "WheelTables$Reader", name := "card", desc := "(I)LWheelTables$Card;" } : Jvm.MethodName) prog_5_method_13_code (5 : Nat) (Option.some (Jvm.ClassFile.FieldType.object "WheelTables$Card"))) ∈ lw_all := lw_g (lw_at lw_m4 68 rfl) rfl
theorem q883 : (Jvm.Cond.classLink "WheelTables$Reader" (102 : Nat) "WheelTables$Card") ∈ lw_all := lw_g (lw_at lw_m4 69 rfl) rfl
theorem q885 : (Jvm.Cond.methodLink "WheelTables$Reader" (111 : Nat) ({ cls := "WheelTables$Card", name := "<init>", desc := "(I)V" } : Jvm.MethodName)) ∈ lw_all := lw_g (lw_at lw_m4 71 rfl) rfl
theorem q890 : (Jvm.Cond.fieldLink "WheelTables$Reader" (101 : Nat) "WheelTables$Card" "kind" "I") ∈ lw_all := lw_g (lw_at lw_m4 76 rfl) rfl
theorem q893 : (Jvm.Cond.fieldLinkNest "WheelTables$Reader" (120 : Nat) "WheelTables$Card" "at" "[I" "WheelTables") ∈ lw_tbl := lw_at lw_m4 79 rfl
theorem q895 : (Jvm.Cond.fieldLinkNest "WheelTables$Reader" (105 : Nat) "WheelTables$Card" "number" "J" "WheelTables") ∈ lw_tbl := lw_at lw_m4 81 rfl
theorem q897 : (Jvm.Cond.fieldLinkNest "WheelTables$Reader" (137 : Nat) "WheelTables$Card" "when" "I" "WheelTables") ∈ lw_tbl := lw_at lw_m4 83 rfl
theorem q899 : (Jvm.Cond.fieldLinkNest "WheelTables$Reader" (108 : Nat) "WheelTables$Card" "where" "I" "WheelTables") ∈ lw_tbl := lw_at lw_m4 85 rfl
theorem q911 : (Jvm.Cond.methodLink "WheelTables$Reader" (114 : Nat) ({ cls := "WheelTables$Reader", name := "goes", desc := "(LWheelTables$Card;)V" } : Jvm.MethodName)) ∈ lw_all := lw_g (lw_at lw_m4 97 rfl) rfl
theorem q912 : (Jvm.Cond.privateMethod ({ cls := "WheelTables$Reader", name := "goes", desc := "(LWheelTables$Card;)V" } : Jvm.MethodName)) ∈ lw_tbl := lw_at lw_m4 98 rfl
theorem q913 : (Jvm.Cond.instanceMethod ({ cls := "WheelTables$Reader", name := "goes", desc := "(LWheelTables$Card;)V" } : Jvm.MethodName)) ∈ lw_all := lw_g (lw_at lw_m4 99 rfl) rfl
theorem q914 : (Jvm.Cond.code ({ cls := "WheelTables$Reader", name := "goes", desc := "(LWheelTables$Card;)V" } : Jvm.MethodName) prog_5_method_15_code (2 : Nat) (Option.none : Option Jvm.ClassFile.FieldType)) ∈ lw_all := lw_g (lw_at lw_m4 100 rfl) rfl
theorem q915 : (Jvm.Cond.constantLong "WheelTables$Reader" (126 : Nat) (40 : Int64)) ∈ lw_all := lw_g (lw_at lw_m4 101 rfl) rfl
theorem q916 : (Jvm.Cond.stringRef "WheelTables$Reader" (128 : Nat) "if") ∈ lw_tbl := lw_at lw_m4 102 rfl
theorem q917 : (Jvm.Cond.methodLink "WheelTables$Reader" (130 : Nat) ({ cls := "WheelTables$Reader", name := "is", desc := "(Ljava/lang/String;)Z" } : Jvm.MethodName)) ∈ lw_all := lw_g (lw_at lw_m4 103 rfl) rfl
theorem q918 : (Jvm.Cond.privateMethod ({ cls := "WheelTables$Reader", name := "is", desc := "(Ljava/lang/String;)Z" } : Jvm.MethodName)) ∈ lw_tbl := lw_at lw_m4 104 rfl
theorem q919 : (Jvm.Cond.instanceMethod ({ cls := "WheelTables$Reader", name := "is", desc := "(Ljava/lang/String;)Z" } : Jvm.MethodName)) ∈ lw_all := lw_g (lw_at lw_m4 105 rfl) rfl
theorem q920 : (Jvm.Cond.code ({ cls := "WheelTables$Reader", name := "is", desc := "(Ljava/lang/String;)Z" } : Jvm.MethodName) prog_5_method_8_code (2 : Nat) (Option.some Jvm.ClassFile.FieldType.boolean)) ∈ lw_all := lw_g (lw_at lw_m4 106 rfl) rfl
theorem q921 : (Jvm.Cond.stringRef "WheelTables$Reader" (133 : Nat) "up") ∈ lw_tbl := lw_at lw_m4 107 rfl
theorem q922 : (Jvm.Cond.stringRef "WheelTables$Reader" (135 : Nat) "down") ∈ lw_tbl := lw_at lw_m4 108 rfl
theorem q923 : (Jvm.Cond.constantLong "WheelTables$Reader" (118 : Nat) (20 : Int64)) ∈ lw_all := lw_g (lw_at lw_m4 109 rfl) rfl
theorem q924 : (Jvm.Cond.methodLink "WheelTables$Reader" (123 : Nat) ({ cls := "WheelTables$Reader", name := "whole", desc := "(LWheelTables$Card;)V" } : Jvm.MethodName)) ∈ lw_all := lw_g (lw_at lw_m4 110 rfl) rfl
theorem q925 : (Jvm.Cond.privateMethod ({ cls := "WheelTables$Reader", name := "whole", desc := "(LWheelTables$Card;)V" } : Jvm.MethodName)) ∈ lw_tbl := lw_at lw_m4 111 rfl
theorem q926 : (Jvm.Cond.instanceMethod ({ cls := "WheelTables$Reader", name := "whole", desc := "(LWheelTables$Card;)V" } : Jvm.MethodName)) ∈ lw_all := lw_g (lw_at lw_m4 112 rfl) rfl
theorem q927 : (Jvm.Cond.code ({ cls := "WheelTables$Reader", name := "whole", desc := "(LWheelTables$Card;)V" } : Jvm.MethodName) prog_5_method_14_code (3 : Nat) (Option.none : Option Jvm.ClassFile.FieldType)) ∈ lw_all := lw_g (lw_at lw_m4 113 rfl) rfl
theorem q928 : (Jvm.Cond.methodLink "WheelTables$Reader" (99 : Nat) ({ cls := "WheelTables$Reader", name := "is", desc := "(I)Z" } : Jvm.MethodName)) ∈ lw_all := lw_g (lw_at lw_m4 114 rfl) rfl
theorem q929 : (Jvm.Cond.privateMethod ({ cls := "WheelTables$Reader", name := "is", desc := "(I)Z" } : Jvm.MethodName)) ∈ lw_tbl := lw_at lw_m4 115 rfl
theorem q930 : (Jvm.Cond.instanceMethod ({ cls := "WheelTables$Reader", name := "is", desc := "(I)Z" } : Jvm.MethodName)) ∈ lw_all := lw_g (lw_at lw_m4 116 rfl) rfl
theorem q931 : (Jvm.Cond.code ({ cls := "WheelTables$Reader", name := "is", desc := "(I)Z" } : Jvm.MethodName) prog_5_method_6_code (2 : Nat) (Option.some Jvm.ClassFile.FieldType.boolean)) ∈ lw_all := lw_g (lw_at lw_m4 117 rfl) rfl
theorem in_X2 : ∀ w ∈ wsX20, w ∈ lw_all := lw_in wsX20 [233, 235, 237, 239, 241, 243, 245, 247] (by decide +kernel) (by decide +kernel)
/-! WheelTables$Tray -/
set_option maxRecDepth 100000
def RX3 : String := "WheelTables$Tray"
def TX3 : u_T := fun k => match k with
  | 0 => ("WheelTables$Tray", "row", "Ljava/lang/Object;", false)
  | _ => ("WheelTables$Tray", "sort", "I", false)
def tyX3 : Nat → FieldType := fun k => match k with
  | 0 => .object "java/lang/Object"
  | _ => .int
abbrev wsX30 : List Cond := u_ws RX3 TX3 2
theorem nmX3 : ∀ a, a < 2 → ∀ b, b < 2 → a ≠ b → (TX3 a).2.1 ≠ (TX3 b).2.1 := by decide +kernel
theorem tyX3_ok : ∀ k, k < 2 → parseFieldDescriptor (TX3 k).2.2.1 = some (tyX3 k) := by decide +kernel
abbrev cX3_init : ByteArray := prog_6_method_1_code
def yX3_init : MethodName := ⟨RX3, "<init>", "()V"⟩
theorem dX3_init_0 : decode cX3_init 0 = .ok (.aload_n 0, 1) := by decide +kernel
theorem dX3_init_1 : decode cX3_init 1 = .ok (.invokespecial 1, 3) := by decide +kernel
theorem dX3_init_4 : decode cX3_init 4 = .ok (.return_, 1) := by decide +kernel
abbrev cX3_make : ByteArray := prog_6_method_2_code
def yX3_make : MethodName := ⟨RX3, "make", "(II)V"⟩
def dkwX3_make_1 : List UInt8 := [160, 0, 9, 28, 188, 10, 167, 0, 6, 28, 188, 11, 78, 42, 45, 181, 0, 7, 42, 27, 181, 0, 13, 177]
abbrev dktX3_make_1 : List UInt8 := dkwX3_make_1 ++ []
def dkwX3_make_0 : List UInt8 := [27, 154, 0, 9, 28, 188, 8, 167, 0, 28, 27, 4, 160, 0, 9, 28, 188, 9, 167, 0, 17, 27, 5]
abbrev dktX3_make_0 : List UInt8 := dkwX3_make_0 ++ dktX3_make_1
theorem dksX3_make_0 : cX3_make.data.toList.drop 0 = dktX3_make_0 := by decide +kernel
theorem dksX3_make_1 : cX3_make.data.toList.drop 23 = dktX3_make_1 := dk_seg dksX3_make_0 23 rfl rfl
theorem dX3_make_0 : decode cX3_make 0 = .ok (.iload_n 1, 1) := dk_27 (dk_at dksX3_make_0 0 rfl rfl)
theorem dX3_make_1 : decode cX3_make 1 = .ok (.ifCond .ne 9, 3) := dk_154 0 9 (dk_at dksX3_make_0 1 rfl rfl)
theorem dX3_make_4 : decode cX3_make 4 = .ok (.iload_n 2, 1) := dk_28 (dk_at dksX3_make_0 4 rfl rfl)
theorem dX3_make_5 : decode cX3_make 5 = .ok (.newarray .byte, 2) := dk_188_8 (dk_at dksX3_make_0 5 rfl rfl)
theorem dX3_make_7 : decode cX3_make 7 = .ok (.goto 28, 3) := dk_167 0 28 (dk_at dksX3_make_0 7 rfl rfl)
theorem dX3_make_10 : decode cX3_make 10 = .ok (.iload_n 1, 1) := dk_27 (dk_at dksX3_make_0 10 rfl rfl)
theorem dX3_make_11 : decode cX3_make 11 = .ok (.iconst 1, 1) := dk_4 (dk_at dksX3_make_0 11 rfl rfl)
theorem dX3_make_12 : decode cX3_make 12 = .ok (.if_icmp .ne 9, 3) := dk_160 0 9 (dk_at dksX3_make_0 12 rfl rfl)
theorem dX3_make_15 : decode cX3_make 15 = .ok (.iload_n 2, 1) := dk_28 (dk_at dksX3_make_0 15 rfl rfl)
theorem dX3_make_16 : decode cX3_make 16 = .ok (.newarray .short, 2) := dk_188_9 (dk_at dksX3_make_0 16 rfl rfl)
theorem dX3_make_18 : decode cX3_make 18 = .ok (.goto 17, 3) := dk_167 0 17 (dk_at dksX3_make_0 18 rfl rfl)
theorem dX3_make_21 : decode cX3_make 21 = .ok (.iload_n 1, 1) := dk_27 (dk_at dksX3_make_0 21 rfl rfl)
theorem dX3_make_22 : decode cX3_make 22 = .ok (.iconst 2, 1) := dk_5 (dk_at dksX3_make_0 22 rfl rfl)
theorem dX3_make_23 : decode cX3_make 23 = .ok (.if_icmp .ne 9, 3) := dk_160 0 9 (dk_at dksX3_make_1 0 rfl rfl)
theorem dX3_make_26 : decode cX3_make 26 = .ok (.iload_n 2, 1) := dk_28 (dk_at dksX3_make_1 3 rfl rfl)
theorem dX3_make_27 : decode cX3_make 27 = .ok (.newarray .int, 2) := dk_188_10 (dk_at dksX3_make_1 4 rfl rfl)
theorem dX3_make_29 : decode cX3_make 29 = .ok (.goto 6, 3) := dk_167 0 6 (dk_at dksX3_make_1 6 rfl rfl)
theorem dX3_make_32 : decode cX3_make 32 = .ok (.iload_n 2, 1) := dk_28 (dk_at dksX3_make_1 9 rfl rfl)
theorem dX3_make_33 : decode cX3_make 33 = .ok (.newarray .long, 2) := dk_188_11 (dk_at dksX3_make_1 10 rfl rfl)
theorem dX3_make_35 : decode cX3_make 35 = .ok (.astore_n 3, 1) := dk_78 (dk_at dksX3_make_1 12 rfl rfl)
theorem dX3_make_36 : decode cX3_make 36 = .ok (.aload_n 0, 1) := dk_42 (dk_at dksX3_make_1 13 rfl rfl)
theorem dX3_make_37 : decode cX3_make 37 = .ok (.aload_n 3, 1) := dk_45 (dk_at dksX3_make_1 14 rfl rfl)
theorem dX3_make_38 : decode cX3_make 38 = .ok (.putfield 7, 3) := dk_181 0 7 (dk_at dksX3_make_1 15 rfl rfl)
theorem dX3_make_41 : decode cX3_make 41 = .ok (.aload_n 0, 1) := dk_42 (dk_at dksX3_make_1 18 rfl rfl)
theorem dX3_make_42 : decode cX3_make 42 = .ok (.iload_n 1, 1) := dk_27 (dk_at dksX3_make_1 19 rfl rfl)
theorem dX3_make_43 : decode cX3_make 43 = .ok (.putfield 13, 3) := dk_181 0 13 (dk_at dksX3_make_1 20 rfl rfl)
theorem dX3_make_46 : decode cX3_make 46 = .ok (.return_, 1) := dk_177 (dk_at dksX3_make_1 23 rfl rfl)
abbrev cX3_set : ByteArray := prog_6_method_5_code
def yX3_set : MethodName := ⟨RX3, "set", "(IJ)V"⟩
def dkwX3_set_3 : List UInt8 := [180, 0, 7, 192, 0, 23, 27, 32, 80, 177]
abbrev dktX3_set_3 : List UInt8 := dkwX3_set_3 ++ []
def dkwX3_set_2 : List UInt8 := [180, 0, 13, 5, 160, 0, 17, 42, 180, 0, 7, 192, 0, 21, 27, 32, 136, 79, 167, 0, 13, 42]
abbrev dktX3_set_2 : List UInt8 := dkwX3_set_2 ++ dktX3_set_3
def dkwX3_set_1 : List UInt8 := [180, 0, 13, 4, 160, 0, 18, 42, 180, 0, 7, 192, 0, 19, 27, 32, 136, 147, 86, 167, 0, 35, 42]
abbrev dktX3_set_1 : List UInt8 := dkwX3_set_1 ++ dktX3_set_2
def dkwX3_set_0 : List UInt8 := [42, 180, 0, 13, 154, 0, 18, 42, 180, 0, 7, 192, 0, 17, 27, 32, 136, 145, 84, 167, 0, 58, 42]
abbrev dktX3_set_0 : List UInt8 := dkwX3_set_0 ++ dktX3_set_1
theorem dksX3_set_0 : cX3_set.data.toList.drop 0 = dktX3_set_0 := by decide +kernel
theorem dksX3_set_1 : cX3_set.data.toList.drop 23 = dktX3_set_1 := dk_seg dksX3_set_0 23 rfl rfl
theorem dksX3_set_2 : cX3_set.data.toList.drop 46 = dktX3_set_2 := dk_seg dksX3_set_1 23 rfl rfl
theorem dksX3_set_3 : cX3_set.data.toList.drop 68 = dktX3_set_3 := dk_seg dksX3_set_2 22 rfl rfl
theorem dX3_set_0 : decode cX3_set 0 = .ok (.aload_n 0, 1) := dk_42 (dk_at dksX3_set_0 0 rfl rfl)
theorem dX3_set_1 : decode cX3_set 1 = .ok (.getfield 13, 3) := dk_180 0 13 (dk_at dksX3_set_0 1 rfl rfl)
theorem dX3_set_4 : decode cX3_set 4 = .ok (.ifCond .ne 18, 3) := dk_154 0 18 (dk_at dksX3_set_0 4 rfl rfl)
theorem dX3_set_7 : decode cX3_set 7 = .ok (.aload_n 0, 1) := dk_42 (dk_at dksX3_set_0 7 rfl rfl)
theorem dX3_set_8 : decode cX3_set 8 = .ok (.getfield 7, 3) := dk_180 0 7 (dk_at dksX3_set_0 8 rfl rfl)
theorem dX3_set_11 : decode cX3_set 11 = .ok (.checkcast 17, 3) := dk_192 0 17 (dk_at dksX3_set_0 11 rfl rfl)
theorem dX3_set_14 : decode cX3_set 14 = .ok (.iload_n 1, 1) := dk_27 (dk_at dksX3_set_0 14 rfl rfl)
theorem dX3_set_15 : decode cX3_set 15 = .ok (.lload_n 2, 1) := dk_32 (dk_at dksX3_set_0 15 rfl rfl)
theorem dX3_set_16 : decode cX3_set 16 = .ok (.l2i, 1) := dk_136 (dk_at dksX3_set_0 16 rfl rfl)
theorem dX3_set_17 : decode cX3_set 17 = .ok (.i2b, 1) := dk_145 (dk_at dksX3_set_0 17 rfl rfl)
theorem dX3_set_18 : decode cX3_set 18 = .ok (.bastore, 1) := dk_84 (dk_at dksX3_set_0 18 rfl rfl)
theorem dX3_set_19 : decode cX3_set 19 = .ok (.goto 58, 3) := dk_167 0 58 (dk_at dksX3_set_0 19 rfl rfl)
theorem dX3_set_22 : decode cX3_set 22 = .ok (.aload_n 0, 1) := dk_42 (dk_at dksX3_set_0 22 rfl rfl)
theorem dX3_set_23 : decode cX3_set 23 = .ok (.getfield 13, 3) := dk_180 0 13 (dk_at dksX3_set_1 0 rfl rfl)
theorem dX3_set_26 : decode cX3_set 26 = .ok (.iconst 1, 1) := dk_4 (dk_at dksX3_set_1 3 rfl rfl)
theorem dX3_set_27 : decode cX3_set 27 = .ok (.if_icmp .ne 18, 3) := dk_160 0 18 (dk_at dksX3_set_1 4 rfl rfl)
theorem dX3_set_30 : decode cX3_set 30 = .ok (.aload_n 0, 1) := dk_42 (dk_at dksX3_set_1 7 rfl rfl)
theorem dX3_set_31 : decode cX3_set 31 = .ok (.getfield 7, 3) := dk_180 0 7 (dk_at dksX3_set_1 8 rfl rfl)
theorem dX3_set_34 : decode cX3_set 34 = .ok (.checkcast 19, 3) := dk_192 0 19 (dk_at dksX3_set_1 11 rfl rfl)
theorem dX3_set_37 : decode cX3_set 37 = .ok (.iload_n 1, 1) := dk_27 (dk_at dksX3_set_1 14 rfl rfl)
theorem dX3_set_38 : decode cX3_set 38 = .ok (.lload_n 2, 1) := dk_32 (dk_at dksX3_set_1 15 rfl rfl)
theorem dX3_set_39 : decode cX3_set 39 = .ok (.l2i, 1) := dk_136 (dk_at dksX3_set_1 16 rfl rfl)
theorem dX3_set_40 : decode cX3_set 40 = .ok (.i2s, 1) := dk_147 (dk_at dksX3_set_1 17 rfl rfl)
theorem dX3_set_41 : decode cX3_set 41 = .ok (.sastore, 1) := dk_86 (dk_at dksX3_set_1 18 rfl rfl)
theorem dX3_set_42 : decode cX3_set 42 = .ok (.goto 35, 3) := dk_167 0 35 (dk_at dksX3_set_1 19 rfl rfl)
theorem dX3_set_45 : decode cX3_set 45 = .ok (.aload_n 0, 1) := dk_42 (dk_at dksX3_set_1 22 rfl rfl)
theorem dX3_set_46 : decode cX3_set 46 = .ok (.getfield 13, 3) := dk_180 0 13 (dk_at dksX3_set_2 0 rfl rfl)
theorem dX3_set_49 : decode cX3_set 49 = .ok (.iconst 2, 1) := dk_5 (dk_at dksX3_set_2 3 rfl rfl)
theorem dX3_set_50 : decode cX3_set 50 = .ok (.if_icmp .ne 17, 3) := dk_160 0 17 (dk_at dksX3_set_2 4 rfl rfl)
theorem dX3_set_53 : decode cX3_set 53 = .ok (.aload_n 0, 1) := dk_42 (dk_at dksX3_set_2 7 rfl rfl)
theorem dX3_set_54 : decode cX3_set 54 = .ok (.getfield 7, 3) := dk_180 0 7 (dk_at dksX3_set_2 8 rfl rfl)
theorem dX3_set_57 : decode cX3_set 57 = .ok (.checkcast 21, 3) := dk_192 0 21 (dk_at dksX3_set_2 11 rfl rfl)
theorem dX3_set_60 : decode cX3_set 60 = .ok (.iload_n 1, 1) := dk_27 (dk_at dksX3_set_2 14 rfl rfl)
theorem dX3_set_61 : decode cX3_set 61 = .ok (.lload_n 2, 1) := dk_32 (dk_at dksX3_set_2 15 rfl rfl)
theorem dX3_set_62 : decode cX3_set 62 = .ok (.l2i, 1) := dk_136 (dk_at dksX3_set_2 16 rfl rfl)
theorem dX3_set_63 : decode cX3_set 63 = .ok (.iastore, 1) := dk_79 (dk_at dksX3_set_2 17 rfl rfl)
theorem dX3_set_64 : decode cX3_set 64 = .ok (.goto 13, 3) := dk_167 0 13 (dk_at dksX3_set_2 18 rfl rfl)
theorem dX3_set_67 : decode cX3_set 67 = .ok (.aload_n 0, 1) := dk_42 (dk_at dksX3_set_2 21 rfl rfl)
theorem dX3_set_68 : decode cX3_set 68 = .ok (.getfield 7, 3) := dk_180 0 7 (dk_at dksX3_set_3 0 rfl rfl)
theorem dX3_set_71 : decode cX3_set 71 = .ok (.checkcast 23, 3) := dk_192 0 23 (dk_at dksX3_set_3 3 rfl rfl)
theorem dX3_set_74 : decode cX3_set 74 = .ok (.iload_n 1, 1) := dk_27 (dk_at dksX3_set_3 6 rfl rfl)
theorem dX3_set_75 : decode cX3_set 75 = .ok (.lload_n 2, 1) := dk_32 (dk_at dksX3_set_3 7 rfl rfl)
theorem dX3_set_76 : decode cX3_set 76 = .ok (.lastore, 1) := dk_80 (dk_at dksX3_set_3 8 rfl rfl)
theorem dX3_set_77 : decode cX3_set 77 = .ok (.return_, 1) := dk_177 (dk_at dksX3_set_3 9 rfl rfl)
abbrev cX3_get : ByteArray := prog_6_method_4_code
def yX3_get : MethodName := ⟨RX3, "get", "(I)J"⟩
def dkwX3_get_3 : List UInt8 := [47, 173]
abbrev dktX3_get_3 : List UInt8 := dkwX3_get_3 ++ []
def dkwX3_get_2 : List UInt8 := [160, 0, 16, 42, 180, 0, 7, 192, 0, 21, 27, 46, 133, 167, 0, 12, 42, 180, 0, 7, 192, 0, 23, 27]
abbrev dktX3_get_2 : List UInt8 := dkwX3_get_2 ++ dktX3_get_3
def dkwX3_get_1 : List UInt8 := [4, 160, 0, 16, 42, 180, 0, 7, 192, 0, 19, 27, 53, 133, 167, 0, 33, 42, 180, 0, 13, 5]
abbrev dktX3_get_1 : List UInt8 := dkwX3_get_1 ++ dktX3_get_2
def dkwX3_get_0 : List UInt8 := [42, 180, 0, 13, 154, 0, 16, 42, 180, 0, 7, 192, 0, 17, 27, 51, 133, 167, 0, 54, 42, 180, 0, 13]
abbrev dktX3_get_0 : List UInt8 := dkwX3_get_0 ++ dktX3_get_1
theorem dksX3_get_0 : cX3_get.data.toList.drop 0 = dktX3_get_0 := by decide +kernel
theorem dksX3_get_1 : cX3_get.data.toList.drop 24 = dktX3_get_1 := dk_seg dksX3_get_0 24 rfl rfl
theorem dksX3_get_2 : cX3_get.data.toList.drop 46 = dktX3_get_2 := dk_seg dksX3_get_1 22 rfl rfl
theorem dksX3_get_3 : cX3_get.data.toList.drop 70 = dktX3_get_3 := dk_seg dksX3_get_2 24 rfl rfl
theorem dX3_get_0 : decode cX3_get 0 = .ok (.aload_n 0, 1) := dk_42 (dk_at dksX3_get_0 0 rfl rfl)
theorem dX3_get_1 : decode cX3_get 1 = .ok (.getfield 13, 3) := dk_180 0 13 (dk_at dksX3_get_0 1 rfl rfl)
theorem dX3_get_4 : decode cX3_get 4 = .ok (.ifCond .ne 16, 3) := dk_154 0 16 (dk_at dksX3_get_0 4 rfl rfl)
theorem dX3_get_7 : decode cX3_get 7 = .ok (.aload_n 0, 1) := dk_42 (dk_at dksX3_get_0 7 rfl rfl)
theorem dX3_get_8 : decode cX3_get 8 = .ok (.getfield 7, 3) := dk_180 0 7 (dk_at dksX3_get_0 8 rfl rfl)
theorem dX3_get_11 : decode cX3_get 11 = .ok (.checkcast 17, 3) := dk_192 0 17 (dk_at dksX3_get_0 11 rfl rfl)
theorem dX3_get_14 : decode cX3_get 14 = .ok (.iload_n 1, 1) := dk_27 (dk_at dksX3_get_0 14 rfl rfl)
theorem dX3_get_15 : decode cX3_get 15 = .ok (.baload, 1) := dk_51 (dk_at dksX3_get_0 15 rfl rfl)
theorem dX3_get_16 : decode cX3_get 16 = .ok (.i2l, 1) := dk_133 (dk_at dksX3_get_0 16 rfl rfl)
theorem dX3_get_17 : decode cX3_get 17 = .ok (.goto 54, 3) := dk_167 0 54 (dk_at dksX3_get_0 17 rfl rfl)
theorem dX3_get_20 : decode cX3_get 20 = .ok (.aload_n 0, 1) := dk_42 (dk_at dksX3_get_0 20 rfl rfl)
theorem dX3_get_21 : decode cX3_get 21 = .ok (.getfield 13, 3) := dk_180 0 13 (dk_at dksX3_get_0 21 rfl rfl)
theorem dX3_get_24 : decode cX3_get 24 = .ok (.iconst 1, 1) := dk_4 (dk_at dksX3_get_1 0 rfl rfl)
theorem dX3_get_25 : decode cX3_get 25 = .ok (.if_icmp .ne 16, 3) := dk_160 0 16 (dk_at dksX3_get_1 1 rfl rfl)
theorem dX3_get_28 : decode cX3_get 28 = .ok (.aload_n 0, 1) := dk_42 (dk_at dksX3_get_1 4 rfl rfl)
theorem dX3_get_29 : decode cX3_get 29 = .ok (.getfield 7, 3) := dk_180 0 7 (dk_at dksX3_get_1 5 rfl rfl)
theorem dX3_get_32 : decode cX3_get 32 = .ok (.checkcast 19, 3) := dk_192 0 19 (dk_at dksX3_get_1 8 rfl rfl)
theorem dX3_get_35 : decode cX3_get 35 = .ok (.iload_n 1, 1) := dk_27 (dk_at dksX3_get_1 11 rfl rfl)
theorem dX3_get_36 : decode cX3_get 36 = .ok (.saload, 1) := dk_53 (dk_at dksX3_get_1 12 rfl rfl)
theorem dX3_get_37 : decode cX3_get 37 = .ok (.i2l, 1) := dk_133 (dk_at dksX3_get_1 13 rfl rfl)
theorem dX3_get_38 : decode cX3_get 38 = .ok (.goto 33, 3) := dk_167 0 33 (dk_at dksX3_get_1 14 rfl rfl)
theorem dX3_get_41 : decode cX3_get 41 = .ok (.aload_n 0, 1) := dk_42 (dk_at dksX3_get_1 17 rfl rfl)
theorem dX3_get_42 : decode cX3_get 42 = .ok (.getfield 13, 3) := dk_180 0 13 (dk_at dksX3_get_1 18 rfl rfl)
theorem dX3_get_45 : decode cX3_get 45 = .ok (.iconst 2, 1) := dk_5 (dk_at dksX3_get_1 21 rfl rfl)
theorem dX3_get_46 : decode cX3_get 46 = .ok (.if_icmp .ne 16, 3) := dk_160 0 16 (dk_at dksX3_get_2 0 rfl rfl)
theorem dX3_get_49 : decode cX3_get 49 = .ok (.aload_n 0, 1) := dk_42 (dk_at dksX3_get_2 3 rfl rfl)
theorem dX3_get_50 : decode cX3_get 50 = .ok (.getfield 7, 3) := dk_180 0 7 (dk_at dksX3_get_2 4 rfl rfl)
theorem dX3_get_53 : decode cX3_get 53 = .ok (.checkcast 21, 3) := dk_192 0 21 (dk_at dksX3_get_2 7 rfl rfl)
theorem dX3_get_56 : decode cX3_get 56 = .ok (.iload_n 1, 1) := dk_27 (dk_at dksX3_get_2 10 rfl rfl)
theorem dX3_get_57 : decode cX3_get 57 = .ok (.iaload, 1) := dk_46 (dk_at dksX3_get_2 11 rfl rfl)
theorem dX3_get_58 : decode cX3_get 58 = .ok (.i2l, 1) := dk_133 (dk_at dksX3_get_2 12 rfl rfl)
theorem dX3_get_59 : decode cX3_get 59 = .ok (.goto 12, 3) := dk_167 0 12 (dk_at dksX3_get_2 13 rfl rfl)
theorem dX3_get_62 : decode cX3_get 62 = .ok (.aload_n 0, 1) := dk_42 (dk_at dksX3_get_2 16 rfl rfl)
theorem dX3_get_63 : decode cX3_get 63 = .ok (.getfield 7, 3) := dk_180 0 7 (dk_at dksX3_get_2 17 rfl rfl)
theorem dX3_get_66 : decode cX3_get 66 = .ok (.checkcast 23, 3) := dk_192 0 23 (dk_at dksX3_get_2 20 rfl rfl)
theorem dX3_get_69 : decode cX3_get 69 = .ok (.iload_n 1, 1) := dk_27 (dk_at dksX3_get_2 23 rfl rfl)
theorem dX3_get_70 : decode cX3_get 70 = .ok (.laload, 1) := dk_47 (dk_at dksX3_get_3 0 rfl rfl)
theorem dX3_get_71 : decode cX3_get 71 = .ok (.lreturn, 1) := dk_173 (dk_at dksX3_get_3 1 rfl rfl)
abbrev cX3_many : ByteArray := prog_6_method_3_code
def yX3_many : MethodName := ⟨RX3, "many", "()I"⟩
def dkwX3_many_2 : List UInt8 := [180, 0, 7, 192, 0, 21, 190, 167, 0, 11, 42, 180, 0, 7, 192, 0, 23, 190, 172]
abbrev dktX3_many_2 : List UInt8 := dkwX3_many_2 ++ []
def dkwX3_many_1 : List UInt8 := [160, 0, 14, 42, 180, 0, 7, 192, 0, 19, 190, 167, 0, 30, 42, 180, 0, 13, 5, 160, 0, 14, 42]
abbrev dktX3_many_1 : List UInt8 := dkwX3_many_1 ++ dktX3_many_2
def dkwX3_many_0 : List UInt8 := [42, 180, 0, 13, 154, 0, 14, 42, 180, 0, 7, 192, 0, 17, 190, 167, 0, 49, 42, 180, 0, 13, 4]
abbrev dktX3_many_0 : List UInt8 := dkwX3_many_0 ++ dktX3_many_1
theorem dksX3_many_0 : cX3_many.data.toList.drop 0 = dktX3_many_0 := by decide +kernel
theorem dksX3_many_1 : cX3_many.data.toList.drop 23 = dktX3_many_1 := dk_seg dksX3_many_0 23 rfl rfl
theorem dksX3_many_2 : cX3_many.data.toList.drop 46 = dktX3_many_2 := dk_seg dksX3_many_1 23 rfl rfl
theorem dX3_many_0 : decode cX3_many 0 = .ok (.aload_n 0, 1) := dk_42 (dk_at dksX3_many_0 0 rfl rfl)
theorem dX3_many_1 : decode cX3_many 1 = .ok (.getfield 13, 3) := dk_180 0 13 (dk_at dksX3_many_0 1 rfl rfl)
theorem dX3_many_4 : decode cX3_many 4 = .ok (.ifCond .ne 14, 3) := dk_154 0 14 (dk_at dksX3_many_0 4 rfl rfl)
theorem dX3_many_7 : decode cX3_many 7 = .ok (.aload_n 0, 1) := dk_42 (dk_at dksX3_many_0 7 rfl rfl)
theorem dX3_many_8 : decode cX3_many 8 = .ok (.getfield 7, 3) := dk_180 0 7 (dk_at dksX3_many_0 8 rfl rfl)
theorem dX3_many_11 : decode cX3_many 11 = .ok (.checkcast 17, 3) := dk_192 0 17 (dk_at dksX3_many_0 11 rfl rfl)
theorem dX3_many_14 : decode cX3_many 14 = .ok (.arraylength, 1) := dk_190 (dk_at dksX3_many_0 14 rfl rfl)
theorem dX3_many_15 : decode cX3_many 15 = .ok (.goto 49, 3) := dk_167 0 49 (dk_at dksX3_many_0 15 rfl rfl)
theorem dX3_many_18 : decode cX3_many 18 = .ok (.aload_n 0, 1) := dk_42 (dk_at dksX3_many_0 18 rfl rfl)
theorem dX3_many_19 : decode cX3_many 19 = .ok (.getfield 13, 3) := dk_180 0 13 (dk_at dksX3_many_0 19 rfl rfl)
theorem dX3_many_22 : decode cX3_many 22 = .ok (.iconst 1, 1) := dk_4 (dk_at dksX3_many_0 22 rfl rfl)
theorem dX3_many_23 : decode cX3_many 23 = .ok (.if_icmp .ne 14, 3) := dk_160 0 14 (dk_at dksX3_many_1 0 rfl rfl)
theorem dX3_many_26 : decode cX3_many 26 = .ok (.aload_n 0, 1) := dk_42 (dk_at dksX3_many_1 3 rfl rfl)
theorem dX3_many_27 : decode cX3_many 27 = .ok (.getfield 7, 3) := dk_180 0 7 (dk_at dksX3_many_1 4 rfl rfl)
theorem dX3_many_30 : decode cX3_many 30 = .ok (.checkcast 19, 3) := dk_192 0 19 (dk_at dksX3_many_1 7 rfl rfl)
theorem dX3_many_33 : decode cX3_many 33 = .ok (.arraylength, 1) := dk_190 (dk_at dksX3_many_1 10 rfl rfl)
theorem dX3_many_34 : decode cX3_many 34 = .ok (.goto 30, 3) := dk_167 0 30 (dk_at dksX3_many_1 11 rfl rfl)
theorem dX3_many_37 : decode cX3_many 37 = .ok (.aload_n 0, 1) := dk_42 (dk_at dksX3_many_1 14 rfl rfl)
theorem dX3_many_38 : decode cX3_many 38 = .ok (.getfield 13, 3) := dk_180 0 13 (dk_at dksX3_many_1 15 rfl rfl)
theorem dX3_many_41 : decode cX3_many 41 = .ok (.iconst 2, 1) := dk_5 (dk_at dksX3_many_1 18 rfl rfl)
theorem dX3_many_42 : decode cX3_many 42 = .ok (.if_icmp .ne 14, 3) := dk_160 0 14 (dk_at dksX3_many_1 19 rfl rfl)
theorem dX3_many_45 : decode cX3_many 45 = .ok (.aload_n 0, 1) := dk_42 (dk_at dksX3_many_1 22 rfl rfl)
theorem dX3_many_46 : decode cX3_many 46 = .ok (.getfield 7, 3) := dk_180 0 7 (dk_at dksX3_many_2 0 rfl rfl)
theorem dX3_many_49 : decode cX3_many 49 = .ok (.checkcast 21, 3) := dk_192 0 21 (dk_at dksX3_many_2 3 rfl rfl)
theorem dX3_many_52 : decode cX3_many 52 = .ok (.arraylength, 1) := dk_190 (dk_at dksX3_many_2 6 rfl rfl)
theorem dX3_many_53 : decode cX3_many 53 = .ok (.goto 11, 3) := dk_167 0 11 (dk_at dksX3_many_2 7 rfl rfl)
theorem dX3_many_56 : decode cX3_many 56 = .ok (.aload_n 0, 1) := dk_42 (dk_at dksX3_many_2 10 rfl rfl)
theorem dX3_many_57 : decode cX3_many 57 = .ok (.getfield 7, 3) := dk_180 0 7 (dk_at dksX3_many_2 11 rfl rfl)
theorem dX3_many_60 : decode cX3_many 60 = .ok (.checkcast 23, 3) := dk_192 0 23 (dk_at dksX3_many_2 14 rfl rfl)
theorem dX3_many_63 : decode cX3_many 63 = .ok (.arraylength, 1) := dk_190 (dk_at dksX3_many_2 17 rfl rfl)
theorem dX3_many_64 : decode cX3_many 64 = .ok (.ireturn, 1) := dk_172 (dk_at dksX3_many_2 18 rfl rfl)
abbrev cX3_cut : ByteArray := prog_6_method_6_code
def yX3_cut : MethodName := ⟨RX3, "cut", "(J)J"⟩
def dkwX3_cut_1 : List UInt8 := [147, 133, 167, 0, 18, 42, 180, 0, 13, 5, 160, 0, 9, 31, 136, 133, 167, 0, 4, 31, 173]
abbrev dktX3_cut_1 : List UInt8 := dkwX3_cut_1 ++ []
def dkwX3_cut_0 : List UInt8 := [42, 180, 0, 13, 154, 0, 10, 31, 136, 145, 133, 167, 0, 33, 42, 180, 0, 13, 4, 160, 0, 10, 31, 136]
abbrev dktX3_cut_0 : List UInt8 := dkwX3_cut_0 ++ dktX3_cut_1
theorem dksX3_cut_0 : cX3_cut.data.toList.drop 0 = dktX3_cut_0 := by decide +kernel
theorem dksX3_cut_1 : cX3_cut.data.toList.drop 24 = dktX3_cut_1 := dk_seg dksX3_cut_0 24 rfl rfl
theorem dX3_cut_0 : decode cX3_cut 0 = .ok (.aload_n 0, 1) := dk_42 (dk_at dksX3_cut_0 0 rfl rfl)
theorem dX3_cut_1 : decode cX3_cut 1 = .ok (.getfield 13, 3) := dk_180 0 13 (dk_at dksX3_cut_0 1 rfl rfl)
theorem dX3_cut_4 : decode cX3_cut 4 = .ok (.ifCond .ne 10, 3) := dk_154 0 10 (dk_at dksX3_cut_0 4 rfl rfl)
theorem dX3_cut_7 : decode cX3_cut 7 = .ok (.lload_n 1, 1) := dk_31 (dk_at dksX3_cut_0 7 rfl rfl)
theorem dX3_cut_8 : decode cX3_cut 8 = .ok (.l2i, 1) := dk_136 (dk_at dksX3_cut_0 8 rfl rfl)
theorem dX3_cut_9 : decode cX3_cut 9 = .ok (.i2b, 1) := dk_145 (dk_at dksX3_cut_0 9 rfl rfl)
theorem dX3_cut_10 : decode cX3_cut 10 = .ok (.i2l, 1) := dk_133 (dk_at dksX3_cut_0 10 rfl rfl)
theorem dX3_cut_11 : decode cX3_cut 11 = .ok (.goto 33, 3) := dk_167 0 33 (dk_at dksX3_cut_0 11 rfl rfl)
theorem dX3_cut_14 : decode cX3_cut 14 = .ok (.aload_n 0, 1) := dk_42 (dk_at dksX3_cut_0 14 rfl rfl)
theorem dX3_cut_15 : decode cX3_cut 15 = .ok (.getfield 13, 3) := dk_180 0 13 (dk_at dksX3_cut_0 15 rfl rfl)
theorem dX3_cut_18 : decode cX3_cut 18 = .ok (.iconst 1, 1) := dk_4 (dk_at dksX3_cut_0 18 rfl rfl)
theorem dX3_cut_19 : decode cX3_cut 19 = .ok (.if_icmp .ne 10, 3) := dk_160 0 10 (dk_at dksX3_cut_0 19 rfl rfl)
theorem dX3_cut_22 : decode cX3_cut 22 = .ok (.lload_n 1, 1) := dk_31 (dk_at dksX3_cut_0 22 rfl rfl)
theorem dX3_cut_23 : decode cX3_cut 23 = .ok (.l2i, 1) := dk_136 (dk_at dksX3_cut_0 23 rfl rfl)
theorem dX3_cut_24 : decode cX3_cut 24 = .ok (.i2s, 1) := dk_147 (dk_at dksX3_cut_1 0 rfl rfl)
theorem dX3_cut_25 : decode cX3_cut 25 = .ok (.i2l, 1) := dk_133 (dk_at dksX3_cut_1 1 rfl rfl)
theorem dX3_cut_26 : decode cX3_cut 26 = .ok (.goto 18, 3) := dk_167 0 18 (dk_at dksX3_cut_1 2 rfl rfl)
theorem dX3_cut_29 : decode cX3_cut 29 = .ok (.aload_n 0, 1) := dk_42 (dk_at dksX3_cut_1 5 rfl rfl)
theorem dX3_cut_30 : decode cX3_cut 30 = .ok (.getfield 13, 3) := dk_180 0 13 (dk_at dksX3_cut_1 6 rfl rfl)
theorem dX3_cut_33 : decode cX3_cut 33 = .ok (.iconst 2, 1) := dk_5 (dk_at dksX3_cut_1 9 rfl rfl)
theorem dX3_cut_34 : decode cX3_cut 34 = .ok (.if_icmp .ne 9, 3) := dk_160 0 9 (dk_at dksX3_cut_1 10 rfl rfl)
theorem dX3_cut_37 : decode cX3_cut 37 = .ok (.lload_n 1, 1) := dk_31 (dk_at dksX3_cut_1 13 rfl rfl)
theorem dX3_cut_38 : decode cX3_cut 38 = .ok (.l2i, 1) := dk_136 (dk_at dksX3_cut_1 14 rfl rfl)
theorem dX3_cut_39 : decode cX3_cut 39 = .ok (.i2l, 1) := dk_133 (dk_at dksX3_cut_1 15 rfl rfl)
theorem dX3_cut_40 : decode cX3_cut 40 = .ok (.goto 4, 3) := dk_167 0 4 (dk_at dksX3_cut_1 16 rfl rfl)
theorem dX3_cut_43 : decode cX3_cut 43 = .ok (.lload_n 1, 1) := dk_31 (dk_at dksX3_cut_1 19 rfl rfl)
theorem dX3_cut_44 : decode cX3_cut 44 = .ok (.lreturn, 1) := dk_173 (dk_at dksX3_cut_1 20 rfl rfl)
theorem q101 : (Jvm.Cond.initialized "WheelTables$Tray") ∈ lw_all := lw_g (lw_at lw_m1 7 rfl) rfl
theorem q255 : (Jvm.Cond.instantiable "WheelTables$Tray" (2 : Nat)) ∈ lw_all := lw_g (lw_at lw_m1 161 rfl) rfl
theorem q257 : (Jvm.Cond.instanceMethod ({ cls := "WheelTables$Tray", name := "<init>", desc := "()V" } : Jvm.MethodName)) ∈ lw_all := lw_g (lw_at lw_m1 163 rfl) rfl
theorem q258 : (Jvm.Cond.code ({ cls := "WheelTables$Tray", name := "<init>", desc := "()V" } : Jvm.MethodName) prog_6_method_1_code (1 : Nat) (Option.none : Option Jvm.ClassFile.FieldType)) ∈ lw_all := lw_g (lw_at lw_m1 164 rfl) rfl
theorem q259 : (Jvm.Cond.methodLink "WheelTables$Tray" (1 : Nat) ({ cls := "java/lang/Object", name := "<init>", desc := "()V" } : Jvm.MethodName)) ∈ lw_all := lw_g (lw_at lw_m1 165 rfl) rfl
theorem q260 : (Jvm.Cond.fieldLink "WheelTables$Tray" (7 : Nat) "WheelTables$Tray" "row" "Ljava/lang/Object;") ∈ lw_all := lw_g (lw_at lw_m1 166 rfl) rfl
theorem q262 : (Jvm.Cond.fieldLink "WheelTables$Tray" (13 : Nat) "WheelTables$Tray" "sort" "I") ∈ lw_all := lw_g (lw_at lw_m1 168 rfl) rfl
theorem q264 : (Jvm.Cond.lays "WheelTables$Tray" "WheelTables$Tray" "row" "Ljava/lang/Object;") ∈ lw_all := lw_g (lw_at lw_m1 170 rfl) rfl
theorem q265 : (Jvm.Cond.soleField "WheelTables$Tray" "row") ∈ lw_all := lw_g (lw_at lw_m1 171 rfl) rfl
theorem q266 : (Jvm.Cond.lays "WheelTables$Tray" "WheelTables$Tray" "sort" "I") ∈ lw_all := lw_g (lw_at lw_m1 172 rfl) rfl
theorem q267 : (Jvm.Cond.soleField "WheelTables$Tray" "sort") ∈ lw_all := lw_g (lw_at lw_m1 173 rfl) rfl
theorem q268 : (Jvm.Cond.superclass "WheelTables$Tray" "java/lang/Object") ∈ lw_all := lw_g (lw_at lw_m1 174 rfl) rfl
theorem q486 : (Jvm.Cond.instanceMethod ({ cls := "WheelTables$Tray", name := "make", desc := "(II)V" } : Jvm.MethodName)) ∈ lw_all := lw_g (lw_at lw_m2 152 rfl) rfl
theorem q487 : (Jvm.Cond.selects "WheelTables$Tray" ({ cls := "WheelTables$Tray", name := "make", desc := "(II)V" } : Jvm.MethodName) ({ cls := "WheelTables$Tray", name := "make", desc := "(II)V" } : Jvm.MethodName)) ∈ lw_all := lw_g (lw_at lw_m2 153 rfl) rfl
theorem q488 : (Jvm.Cond.code ({ cls := "WheelTables$Tray", name := "make", desc := "(II)V" } : Jvm.MethodName) prog_6_method_2_code (4 : Nat) (Option.none : Option Jvm.ClassFile.FieldType)) ∈ lw_all := lw_g (lw_at lw_m2 154 rfl) rfl
theorem q539 : (Jvm.Cond.instanceMethod ({ cls := "WheelTables$Tray", name := "set", desc := "(IJ)V" } : Jvm.MethodName)) ∈ lw_all := lw_g (lw_at lw_m2 205 rfl) rfl
theorem q540 : (Jvm.Cond.selects "WheelTables$Tray" ({ cls := "WheelTables$Tray", name := "set", desc := "(IJ)V" } : Jvm.MethodName) ({ cls := "WheelTables$Tray", name := "set", desc := "(IJ)V" } : Jvm.MethodName)) ∈ lw_all := lw_g (lw_at lw_m2 206 rfl) rfl
theorem q541 : (Jvm.Cond.code ({ cls := "WheelTables$Tray", name := "set", desc := "(IJ)V" } : Jvm.MethodName) prog_6_method_5_code (4 : Nat) (Option.none : Option Jvm.ClassFile.FieldType)) ∈ lw_all := lw_g (lw_at lw_m2 207 rfl) rfl
theorem q542 : (Jvm.Cond.classLink "WheelTables$Tray" (17 : Nat) "[B") ∈ lw_all := lw_g (lw_at lw_m2 208 rfl) rfl
theorem q543 : (Jvm.Cond.classLink "WheelTables$Tray" (19 : Nat) "[S") ∈ lw_all := lw_g (lw_at lw_m2 209 rfl) rfl
theorem q544 : (Jvm.Cond.classLink "WheelTables$Tray" (21 : Nat) "[I") ∈ lw_all := lw_g (lw_at lw_m2 210 rfl) rfl
theorem q545 : (Jvm.Cond.classLink "WheelTables$Tray" (23 : Nat) "[J") ∈ lw_all := lw_g (lw_at lw_m2 211 rfl) rfl
theorem q555 : (Jvm.Cond.instanceMethod ({ cls := "WheelTables$Tray", name := "get", desc := "(I)J" } : Jvm.MethodName)) ∈ lw_all := lw_g (lw_at lw_m2 221 rfl) rfl
theorem q556 : (Jvm.Cond.selects "WheelTables$Tray" ({ cls := "WheelTables$Tray", name := "get", desc := "(I)J" } : Jvm.MethodName) ({ cls := "WheelTables$Tray", name := "get", desc := "(I)J" } : Jvm.MethodName)) ∈ lw_all := lw_g (lw_at lw_m2 222 rfl) rfl
theorem q557 : (Jvm.Cond.code ({ cls := "WheelTables$Tray", name := "get", desc := "(I)J" } : Jvm.MethodName) prog_6_method_4_code (2 : Nat) (Option.some Jvm.ClassFile.FieldType.long)) ∈ lw_all := lw_g (lw_at lw_m2 223 rfl) rfl
theorem q572 : (Jvm.Cond.instanceMethod ({ cls := "WheelTables$Tray", name := "many", desc := "()I" } : Jvm.MethodName)) ∈ lw_all := lw_g (lw_at lw_m2 238 rfl) rfl
theorem q573 : (Jvm.Cond.selects "WheelTables$Tray" ({ cls := "WheelTables$Tray", name := "many", desc := "()I" } : Jvm.MethodName) ({ cls := "WheelTables$Tray", name := "many", desc := "()I" } : Jvm.MethodName)) ∈ lw_all := lw_g (lw_at lw_m2 239 rfl) rfl
theorem q574 : (Jvm.Cond.code ({ cls := "WheelTables$Tray", name := "many", desc := "()I" } : Jvm.MethodName) prog_6_method_3_code (1 : Nat) (Option.some Jvm.ClassFile.FieldType.int)) ∈ lw_all := lw_g (lw_at lw_m3 0 rfl) rfl
theorem q747 : (Jvm.Cond.instanceMethod ({ cls := "WheelTables$Tray", name := "cut", desc := "(J)J" } : Jvm.MethodName)) ∈ lw_all := lw_g (lw_at lw_m3 173 rfl) rfl
theorem q748 : (Jvm.Cond.selects "WheelTables$Tray" ({ cls := "WheelTables$Tray", name := "cut", desc := "(J)J" } : Jvm.MethodName) ({ cls := "WheelTables$Tray", name := "cut", desc := "(J)J" } : Jvm.MethodName)) ∈ lw_all := lw_g (lw_at lw_m3 174 rfl) rfl
theorem q749 : (Jvm.Cond.code ({ cls := "WheelTables$Tray", name := "cut", desc := "(J)J" } : Jvm.MethodName) prog_6_method_6_code (3 : Nat) (Option.some Jvm.ClassFile.FieldType.long)) ∈ lw_all := lw_g (lw_at lw_m3 175 rfl) rfl
theorem in_X3 : ∀ w ∈ wsX30, w ∈ lw_all := lw_in wsX30 [264, 266] (by decide +kernel) (by decide +kernel)
/-! WheelTables$Engine -/
set_option maxRecDepth 100000
def RX5 : String := "WheelTables$Engine"
def TX5 : u_T := fun k => match k with
  | 0 => ("WheelTables$Engine", "axes", "I", true)
  | 1 => ("WheelTables$Engine", "wheels", "I", true)
  | 2 => ("WheelTables$Engine", "radix", "[I", true)
  | 3 => ("WheelTables$Engine", "axis", "[LWheelTables$Axis;", true)
  | 4 => ("WheelTables$Engine", "turn", "I", false)
  | 5 => ("WheelTables$Engine", "mishaps", "I", false)
  | 6 => ("WheelTables$Engine", "mTurn", "[I", true)
  | 7 => ("WheelTables$Engine", "mAxis", "[I", true)
  | 8 => ("WheelTables$Engine", "mWheel", "[I", true)
  | 9 => ("WheelTables$Engine", "mKind", "[I", true)
  | _ => ("WheelTables$Engine", "isWarned", "[Z", true)
def tyX5 : Nat → FieldType := fun k => match k with
  | 0 => .int
  | 1 => .int
  | 2 => .array .int
  | 3 => .array (.object "WheelTables$Axis")
  | 4 => .int
  | 5 => .int
  | 6 => .array .int
  | 7 => .array .int
  | 8 => .array .int
  | 9 => .array .int
  | _ => .array .boolean
abbrev wsX50 : List Cond := u_ws RX5 TX5 11
theorem nmX5 : ∀ a, a < 11 → ∀ b, b < 11 → a ≠ b → (TX5 a).2.1 ≠ (TX5 b).2.1 := by decide +kernel
theorem tyX5_ok : ∀ k, k < 11 → parseFieldDescriptor (TX5 k).2.2.1 = some (tyX5 k) := by decide +kernel
abbrev cX5_init : ByteArray := prog_4_method_1_code
def yX5_init : MethodName := ⟨RX5, "<init>", "(II[I)V"⟩
def dkwX5_init_4 : List UInt8 := [21, 4, 187, 0, 44, 89, 28, 183, 0, 50, 83, 132, 4, 1, 167, 255, 232, 177]
abbrev dktX5_init_4 : List UInt8 := dkwX5_init_4 ++ []
def dkwX5_init_3 : List UInt8 := [184, 0, 38, 42, 27, 189, 0, 44, 181, 0, 46, 3, 54, 4, 21, 4, 27, 162, 0, 24, 42, 180, 0, 46]
abbrev dktX5_init_3 : List UInt8 := dkwX5_init_3 ++ dktX5_init_4
def dkwX5_init_2 : List UInt8 := [181, 0, 28, 42, 28, 181, 0, 32, 42, 28, 188, 10, 181, 0, 35, 45, 3, 42, 180, 0, 35, 3, 28]
abbrev dktX5_init_2 : List UInt8 := dkwX5_init_2 ++ dktX5_init_3
def dkwX5_init_1 : List UInt8 := [188, 10, 181, 0, 18, 42, 16, 20, 188, 10, 181, 0, 21, 42, 16, 12, 188, 4, 181, 0, 24, 42, 27]
abbrev dktX5_init_1 : List UInt8 := dkwX5_init_1 ++ dktX5_init_2
def dkwX5_init_0 : List UInt8 := [42, 183, 0, 3, 42, 16, 20, 188, 10, 181, 0, 9, 42, 16, 20, 188, 10, 181, 0, 15, 42, 16, 20]
abbrev dktX5_init_0 : List UInt8 := dkwX5_init_0 ++ dktX5_init_1
theorem dksX5_init_0 : cX5_init.data.toList.drop 0 = dktX5_init_0 := by decide +kernel
theorem dksX5_init_1 : cX5_init.data.toList.drop 23 = dktX5_init_1 := dk_seg dksX5_init_0 23 rfl rfl
theorem dksX5_init_2 : cX5_init.data.toList.drop 46 = dktX5_init_2 := dk_seg dksX5_init_1 23 rfl rfl
theorem dksX5_init_3 : cX5_init.data.toList.drop 69 = dktX5_init_3 := dk_seg dksX5_init_2 23 rfl rfl
theorem dksX5_init_4 : cX5_init.data.toList.drop 93 = dktX5_init_4 := dk_seg dksX5_init_3 24 rfl rfl
theorem dX5_init_0 : decode cX5_init 0 = .ok (.aload_n 0, 1) := dk_42 (dk_at dksX5_init_0 0 rfl rfl)
theorem dX5_init_1 : decode cX5_init 1 = .ok (.invokespecial 3, 3) := dk_183 0 3 (dk_at dksX5_init_0 1 rfl rfl)
theorem dX5_init_4 : decode cX5_init 4 = .ok (.aload_n 0, 1) := dk_42 (dk_at dksX5_init_0 4 rfl rfl)
theorem dX5_init_5 : decode cX5_init 5 = .ok (.bipush 20, 2) := dk_16 20 (dk_at dksX5_init_0 5 rfl rfl)
theorem dX5_init_7 : decode cX5_init 7 = .ok (.newarray .int, 2) := dk_188_10 (dk_at dksX5_init_0 7 rfl rfl)
theorem dX5_init_9 : decode cX5_init 9 = .ok (.putfield 9, 3) := dk_181 0 9 (dk_at dksX5_init_0 9 rfl rfl)
theorem dX5_init_12 : decode cX5_init 12 = .ok (.aload_n 0, 1) := dk_42 (dk_at dksX5_init_0 12 rfl rfl)
theorem dX5_init_13 : decode cX5_init 13 = .ok (.bipush 20, 2) := dk_16 20 (dk_at dksX5_init_0 13 rfl rfl)
theorem dX5_init_15 : decode cX5_init 15 = .ok (.newarray .int, 2) := dk_188_10 (dk_at dksX5_init_0 15 rfl rfl)
theorem dX5_init_17 : decode cX5_init 17 = .ok (.putfield 15, 3) := dk_181 0 15 (dk_at dksX5_init_0 17 rfl rfl)
theorem dX5_init_20 : decode cX5_init 20 = .ok (.aload_n 0, 1) := dk_42 (dk_at dksX5_init_0 20 rfl rfl)
theorem dX5_init_21 : decode cX5_init 21 = .ok (.bipush 20, 2) := dk_16 20 (dk_at dksX5_init_0 21 rfl rfl)
theorem dX5_init_23 : decode cX5_init 23 = .ok (.newarray .int, 2) := dk_188_10 (dk_at dksX5_init_1 0 rfl rfl)
theorem dX5_init_25 : decode cX5_init 25 = .ok (.putfield 18, 3) := dk_181 0 18 (dk_at dksX5_init_1 2 rfl rfl)
theorem dX5_init_28 : decode cX5_init 28 = .ok (.aload_n 0, 1) := dk_42 (dk_at dksX5_init_1 5 rfl rfl)
theorem dX5_init_29 : decode cX5_init 29 = .ok (.bipush 20, 2) := dk_16 20 (dk_at dksX5_init_1 6 rfl rfl)
theorem dX5_init_31 : decode cX5_init 31 = .ok (.newarray .int, 2) := dk_188_10 (dk_at dksX5_init_1 8 rfl rfl)
theorem dX5_init_33 : decode cX5_init 33 = .ok (.putfield 21, 3) := dk_181 0 21 (dk_at dksX5_init_1 10 rfl rfl)
theorem dX5_init_36 : decode cX5_init 36 = .ok (.aload_n 0, 1) := dk_42 (dk_at dksX5_init_1 13 rfl rfl)
theorem dX5_init_37 : decode cX5_init 37 = .ok (.bipush 12, 2) := dk_16 12 (dk_at dksX5_init_1 14 rfl rfl)
theorem dX5_init_39 : decode cX5_init 39 = .ok (.newarray .boolean, 2) := dk_188_4 (dk_at dksX5_init_1 16 rfl rfl)
theorem dX5_init_41 : decode cX5_init 41 = .ok (.putfield 24, 3) := dk_181 0 24 (dk_at dksX5_init_1 18 rfl rfl)
theorem dX5_init_44 : decode cX5_init 44 = .ok (.aload_n 0, 1) := dk_42 (dk_at dksX5_init_1 21 rfl rfl)
theorem dX5_init_45 : decode cX5_init 45 = .ok (.iload_n 1, 1) := dk_27 (dk_at dksX5_init_1 22 rfl rfl)
theorem dX5_init_46 : decode cX5_init 46 = .ok (.putfield 28, 3) := dk_181 0 28 (dk_at dksX5_init_2 0 rfl rfl)
theorem dX5_init_49 : decode cX5_init 49 = .ok (.aload_n 0, 1) := dk_42 (dk_at dksX5_init_2 3 rfl rfl)
theorem dX5_init_50 : decode cX5_init 50 = .ok (.iload_n 2, 1) := dk_28 (dk_at dksX5_init_2 4 rfl rfl)
theorem dX5_init_51 : decode cX5_init 51 = .ok (.putfield 32, 3) := dk_181 0 32 (dk_at dksX5_init_2 5 rfl rfl)
theorem dX5_init_54 : decode cX5_init 54 = .ok (.aload_n 0, 1) := dk_42 (dk_at dksX5_init_2 8 rfl rfl)
theorem dX5_init_55 : decode cX5_init 55 = .ok (.iload_n 2, 1) := dk_28 (dk_at dksX5_init_2 9 rfl rfl)
theorem dX5_init_56 : decode cX5_init 56 = .ok (.newarray .int, 2) := dk_188_10 (dk_at dksX5_init_2 10 rfl rfl)
theorem dX5_init_58 : decode cX5_init 58 = .ok (.putfield 35, 3) := dk_181 0 35 (dk_at dksX5_init_2 12 rfl rfl)
theorem dX5_init_61 : decode cX5_init 61 = .ok (.aload_n 3, 1) := dk_45 (dk_at dksX5_init_2 15 rfl rfl)
theorem dX5_init_62 : decode cX5_init 62 = .ok (.iconst 0, 1) := dk_3 (dk_at dksX5_init_2 16 rfl rfl)
theorem dX5_init_63 : decode cX5_init 63 = .ok (.aload_n 0, 1) := dk_42 (dk_at dksX5_init_2 17 rfl rfl)
theorem dX5_init_64 : decode cX5_init 64 = .ok (.getfield 35, 3) := dk_180 0 35 (dk_at dksX5_init_2 18 rfl rfl)
theorem dX5_init_67 : decode cX5_init 67 = .ok (.iconst 0, 1) := dk_3 (dk_at dksX5_init_2 21 rfl rfl)
theorem dX5_init_68 : decode cX5_init 68 = .ok (.iload_n 2, 1) := dk_28 (dk_at dksX5_init_2 22 rfl rfl)
theorem dX5_init_69 : decode cX5_init 69 = .ok (.invokestatic 38, 3) := dk_184 0 38 (dk_at dksX5_init_3 0 rfl rfl)
theorem dX5_init_72 : decode cX5_init 72 = .ok (.aload_n 0, 1) := dk_42 (dk_at dksX5_init_3 3 rfl rfl)
theorem dX5_init_73 : decode cX5_init 73 = .ok (.iload_n 1, 1) := dk_27 (dk_at dksX5_init_3 4 rfl rfl)
theorem dX5_init_74 : decode cX5_init 74 = .ok (.anewarray 44, 3) := dk_189 0 44 (dk_at dksX5_init_3 5 rfl rfl)
theorem dX5_init_77 : decode cX5_init 77 = .ok (.putfield 46, 3) := dk_181 0 46 (dk_at dksX5_init_3 8 rfl rfl)
theorem dX5_init_80 : decode cX5_init 80 = .ok (.iconst 0, 1) := dk_3 (dk_at dksX5_init_3 11 rfl rfl)
theorem dX5_init_81 : decode cX5_init 81 = .ok (.istore 4, 2) := dk_54 4 (dk_at dksX5_init_3 12 rfl rfl)
theorem dX5_init_83 : decode cX5_init 83 = .ok (.iload 4, 2) := dk_21 4 (dk_at dksX5_init_3 14 rfl rfl)
theorem dX5_init_85 : decode cX5_init 85 = .ok (.iload_n 1, 1) := dk_27 (dk_at dksX5_init_3 16 rfl rfl)
theorem dX5_init_86 : decode cX5_init 86 = .ok (.if_icmp .ge 24, 3) := dk_162 0 24 (dk_at dksX5_init_3 17 rfl rfl)
theorem dX5_init_89 : decode cX5_init 89 = .ok (.aload_n 0, 1) := dk_42 (dk_at dksX5_init_3 20 rfl rfl)
theorem dX5_init_90 : decode cX5_init 90 = .ok (.getfield 46, 3) := dk_180 0 46 (dk_at dksX5_init_3 21 rfl rfl)
theorem dX5_init_93 : decode cX5_init 93 = .ok (.iload 4, 2) := dk_21 4 (dk_at dksX5_init_4 0 rfl rfl)
theorem dX5_init_95 : decode cX5_init 95 = .ok (.new 44, 3) := dk_187 0 44 (dk_at dksX5_init_4 2 rfl rfl)
theorem dX5_init_98 : decode cX5_init 98 = .ok (.dup, 1) := dk_89 (dk_at dksX5_init_4 5 rfl rfl)
theorem dX5_init_99 : decode cX5_init 99 = .ok (.iload_n 2, 1) := dk_28 (dk_at dksX5_init_4 6 rfl rfl)
theorem dX5_init_100 : decode cX5_init 100 = .ok (.invokespecial 50, 3) := dk_183 0 50 (dk_at dksX5_init_4 7 rfl rfl)
theorem dX5_init_103 : decode cX5_init 103 = .ok (.aastore, 1) := dk_83 (dk_at dksX5_init_4 10 rfl rfl)
theorem dX5_init_104 : decode cX5_init 104 = .ok (.iinc 4 1, 3) := dk_132 4 1 (dk_at dksX5_init_4 11 rfl rfl)
theorem dX5_init_107 : decode cX5_init 107 = .ok (.goto (-24), 3) := dk_167 255 232 (dk_at dksX5_init_4 14 rfl rfl)
theorem dX5_init_110 : decode cX5_init 110 = .ok (.return_, 1) := dk_177 (dk_at dksX5_init_4 17 rfl rfl)
abbrev cX5_number : ByteArray := prog_4_method_7_code
def yX5_number : MethodName := ⟨RX5, "number", "(I)J"⟩
def dkwX5_number_1 : List UInt8 := [105, 42, 180, 0, 46, 27, 50, 180, 0, 53, 21, 4, 46, 133, 97, 65, 132, 4, 255, 167, 255, 223, 32, 173]
abbrev dktX5_number_1 : List UInt8 := dkwX5_number_1 ++ []
def dkwX5_number_0 : List UInt8 := [9, 65, 42, 180, 0, 32, 4, 100, 54, 4, 21, 4, 155, 0, 34, 32, 42, 180, 0, 35, 21, 4, 46, 133]
abbrev dktX5_number_0 : List UInt8 := dkwX5_number_0 ++ dktX5_number_1
theorem dksX5_number_0 : cX5_number.data.toList.drop 0 = dktX5_number_0 := by decide +kernel
theorem dksX5_number_1 : cX5_number.data.toList.drop 24 = dktX5_number_1 := dk_seg dksX5_number_0 24 rfl rfl
theorem dX5_number_0 : decode cX5_number 0 = .ok (.lconst 0, 1) := dk_9 (dk_at dksX5_number_0 0 rfl rfl)
theorem dX5_number_1 : decode cX5_number 1 = .ok (.lstore_n 2, 1) := dk_65 (dk_at dksX5_number_0 1 rfl rfl)
theorem dX5_number_2 : decode cX5_number 2 = .ok (.aload_n 0, 1) := dk_42 (dk_at dksX5_number_0 2 rfl rfl)
theorem dX5_number_3 : decode cX5_number 3 = .ok (.getfield 32, 3) := dk_180 0 32 (dk_at dksX5_number_0 3 rfl rfl)
theorem dX5_number_6 : decode cX5_number 6 = .ok (.iconst 1, 1) := dk_4 (dk_at dksX5_number_0 6 rfl rfl)
theorem dX5_number_7 : decode cX5_number 7 = .ok (.isub, 1) := dk_100 (dk_at dksX5_number_0 7 rfl rfl)
theorem dX5_number_8 : decode cX5_number 8 = .ok (.istore 4, 2) := dk_54 4 (dk_at dksX5_number_0 8 rfl rfl)
theorem dX5_number_10 : decode cX5_number 10 = .ok (.iload 4, 2) := dk_21 4 (dk_at dksX5_number_0 10 rfl rfl)
theorem dX5_number_12 : decode cX5_number 12 = .ok (.ifCond .lt 34, 3) := dk_155 0 34 (dk_at dksX5_number_0 12 rfl rfl)
theorem dX5_number_15 : decode cX5_number 15 = .ok (.lload_n 2, 1) := dk_32 (dk_at dksX5_number_0 15 rfl rfl)
theorem dX5_number_16 : decode cX5_number 16 = .ok (.aload_n 0, 1) := dk_42 (dk_at dksX5_number_0 16 rfl rfl)
theorem dX5_number_17 : decode cX5_number 17 = .ok (.getfield 35, 3) := dk_180 0 35 (dk_at dksX5_number_0 17 rfl rfl)
theorem dX5_number_20 : decode cX5_number 20 = .ok (.iload 4, 2) := dk_21 4 (dk_at dksX5_number_0 20 rfl rfl)
theorem dX5_number_22 : decode cX5_number 22 = .ok (.iaload, 1) := dk_46 (dk_at dksX5_number_0 22 rfl rfl)
theorem dX5_number_23 : decode cX5_number 23 = .ok (.i2l, 1) := dk_133 (dk_at dksX5_number_0 23 rfl rfl)
theorem dX5_number_24 : decode cX5_number 24 = .ok (.lmul, 1) := dk_105 (dk_at dksX5_number_1 0 rfl rfl)
theorem dX5_number_25 : decode cX5_number 25 = .ok (.aload_n 0, 1) := dk_42 (dk_at dksX5_number_1 1 rfl rfl)
theorem dX5_number_26 : decode cX5_number 26 = .ok (.getfield 46, 3) := dk_180 0 46 (dk_at dksX5_number_1 2 rfl rfl)
theorem dX5_number_29 : decode cX5_number 29 = .ok (.iload_n 1, 1) := dk_27 (dk_at dksX5_number_1 5 rfl rfl)
theorem dX5_number_30 : decode cX5_number 30 = .ok (.aaload, 1) := dk_50 (dk_at dksX5_number_1 6 rfl rfl)
theorem dX5_number_31 : decode cX5_number 31 = .ok (.getfield 53, 3) := dk_180 0 53 (dk_at dksX5_number_1 7 rfl rfl)
theorem dX5_number_34 : decode cX5_number 34 = .ok (.iload 4, 2) := dk_21 4 (dk_at dksX5_number_1 10 rfl rfl)
theorem dX5_number_36 : decode cX5_number 36 = .ok (.iaload, 1) := dk_46 (dk_at dksX5_number_1 12 rfl rfl)
theorem dX5_number_37 : decode cX5_number 37 = .ok (.i2l, 1) := dk_133 (dk_at dksX5_number_1 13 rfl rfl)
theorem dX5_number_38 : decode cX5_number 38 = .ok (.ladd, 1) := dk_97 (dk_at dksX5_number_1 14 rfl rfl)
theorem dX5_number_39 : decode cX5_number 39 = .ok (.lstore_n 2, 1) := dk_65 (dk_at dksX5_number_1 15 rfl rfl)
theorem dX5_number_40 : decode cX5_number 40 = .ok (.iinc 4 (-1), 3) := dk_132 4 255 (dk_at dksX5_number_1 16 rfl rfl)
theorem dX5_number_43 : decode cX5_number 43 = .ok (.goto (-33), 3) := dk_167 255 223 (dk_at dksX5_number_1 19 rfl rfl)
theorem dX5_number_46 : decode cX5_number 46 = .ok (.lload_n 2, 1) := dk_32 (dk_at dksX5_number_1 22 rfl rfl)
theorem dX5_number_47 : decode cX5_number 47 = .ok (.lreturn, 1) := dk_173 (dk_at dksX5_number_1 23 rfl rfl)
abbrev cX5_shows : ByteArray := prog_4_method_8_code
def yX5_shows : MethodName := ⟨RX5, "shows", "(IJ)V"⟩
def dkwX5_shows_2 : List UInt8 := [21, 6, 46, 133, 184, 0, 76, 55, 4, 132, 6, 1, 167, 255, 203, 177]
abbrev dktX5_shows_2 : List UInt8 := dkwX5_shows_2 ++ []
def dkwX5_shows_1 : List UInt8 := [21, 6, 22, 4, 42, 180, 0, 35, 21, 6, 46, 133, 184, 0, 70, 136, 79, 22, 4, 42, 180, 0, 35]
abbrev dktX5_shows_1 : List UInt8 := dkwX5_shows_1 ++ dktX5_shows_2
def dkwX5_shows_0 : List UInt8 := [32, 55, 4, 3, 54, 6, 21, 6, 42, 180, 0, 32, 162, 0, 50, 42, 180, 0, 46, 27, 50, 180, 0, 53]
abbrev dktX5_shows_0 : List UInt8 := dkwX5_shows_0 ++ dktX5_shows_1
theorem dksX5_shows_0 : cX5_shows.data.toList.drop 0 = dktX5_shows_0 := by decide +kernel
theorem dksX5_shows_1 : cX5_shows.data.toList.drop 24 = dktX5_shows_1 := dk_seg dksX5_shows_0 24 rfl rfl
theorem dksX5_shows_2 : cX5_shows.data.toList.drop 47 = dktX5_shows_2 := dk_seg dksX5_shows_1 23 rfl rfl
theorem dX5_shows_0 : decode cX5_shows 0 = .ok (.lload_n 2, 1) := dk_32 (dk_at dksX5_shows_0 0 rfl rfl)
theorem dX5_shows_1 : decode cX5_shows 1 = .ok (.lstore 4, 2) := dk_55 4 (dk_at dksX5_shows_0 1 rfl rfl)
theorem dX5_shows_3 : decode cX5_shows 3 = .ok (.iconst 0, 1) := dk_3 (dk_at dksX5_shows_0 3 rfl rfl)
theorem dX5_shows_4 : decode cX5_shows 4 = .ok (.istore 6, 2) := dk_54 6 (dk_at dksX5_shows_0 4 rfl rfl)
theorem dX5_shows_6 : decode cX5_shows 6 = .ok (.iload 6, 2) := dk_21 6 (dk_at dksX5_shows_0 6 rfl rfl)
theorem dX5_shows_8 : decode cX5_shows 8 = .ok (.aload_n 0, 1) := dk_42 (dk_at dksX5_shows_0 8 rfl rfl)
theorem dX5_shows_9 : decode cX5_shows 9 = .ok (.getfield 32, 3) := dk_180 0 32 (dk_at dksX5_shows_0 9 rfl rfl)
theorem dX5_shows_12 : decode cX5_shows 12 = .ok (.if_icmp .ge 50, 3) := dk_162 0 50 (dk_at dksX5_shows_0 12 rfl rfl)
theorem dX5_shows_15 : decode cX5_shows 15 = .ok (.aload_n 0, 1) := dk_42 (dk_at dksX5_shows_0 15 rfl rfl)
theorem dX5_shows_16 : decode cX5_shows 16 = .ok (.getfield 46, 3) := dk_180 0 46 (dk_at dksX5_shows_0 16 rfl rfl)
theorem dX5_shows_19 : decode cX5_shows 19 = .ok (.iload_n 1, 1) := dk_27 (dk_at dksX5_shows_0 19 rfl rfl)
theorem dX5_shows_20 : decode cX5_shows 20 = .ok (.aaload, 1) := dk_50 (dk_at dksX5_shows_0 20 rfl rfl)
theorem dX5_shows_21 : decode cX5_shows 21 = .ok (.getfield 53, 3) := dk_180 0 53 (dk_at dksX5_shows_0 21 rfl rfl)
theorem dX5_shows_24 : decode cX5_shows 24 = .ok (.iload 6, 2) := dk_21 6 (dk_at dksX5_shows_1 0 rfl rfl)
theorem dX5_shows_26 : decode cX5_shows 26 = .ok (.lload 4, 2) := dk_22 4 (dk_at dksX5_shows_1 2 rfl rfl)
theorem dX5_shows_28 : decode cX5_shows 28 = .ok (.aload_n 0, 1) := dk_42 (dk_at dksX5_shows_1 4 rfl rfl)
theorem dX5_shows_29 : decode cX5_shows 29 = .ok (.getfield 35, 3) := dk_180 0 35 (dk_at dksX5_shows_1 5 rfl rfl)
theorem dX5_shows_32 : decode cX5_shows 32 = .ok (.iload 6, 2) := dk_21 6 (dk_at dksX5_shows_1 8 rfl rfl)
theorem dX5_shows_34 : decode cX5_shows 34 = .ok (.iaload, 1) := dk_46 (dk_at dksX5_shows_1 10 rfl rfl)
theorem dX5_shows_35 : decode cX5_shows 35 = .ok (.i2l, 1) := dk_133 (dk_at dksX5_shows_1 11 rfl rfl)
theorem dX5_shows_36 : decode cX5_shows 36 = .ok (.invokestatic 70, 3) := dk_184 0 70 (dk_at dksX5_shows_1 12 rfl rfl)
theorem dX5_shows_39 : decode cX5_shows 39 = .ok (.l2i, 1) := dk_136 (dk_at dksX5_shows_1 15 rfl rfl)
theorem dX5_shows_40 : decode cX5_shows 40 = .ok (.iastore, 1) := dk_79 (dk_at dksX5_shows_1 16 rfl rfl)
theorem dX5_shows_41 : decode cX5_shows 41 = .ok (.lload 4, 2) := dk_22 4 (dk_at dksX5_shows_1 17 rfl rfl)
theorem dX5_shows_43 : decode cX5_shows 43 = .ok (.aload_n 0, 1) := dk_42 (dk_at dksX5_shows_1 19 rfl rfl)
theorem dX5_shows_44 : decode cX5_shows 44 = .ok (.getfield 35, 3) := dk_180 0 35 (dk_at dksX5_shows_1 20 rfl rfl)
theorem dX5_shows_47 : decode cX5_shows 47 = .ok (.iload 6, 2) := dk_21 6 (dk_at dksX5_shows_2 0 rfl rfl)
theorem dX5_shows_49 : decode cX5_shows 49 = .ok (.iaload, 1) := dk_46 (dk_at dksX5_shows_2 2 rfl rfl)
theorem dX5_shows_50 : decode cX5_shows 50 = .ok (.i2l, 1) := dk_133 (dk_at dksX5_shows_2 3 rfl rfl)
theorem dX5_shows_51 : decode cX5_shows 51 = .ok (.invokestatic 76, 3) := dk_184 0 76 (dk_at dksX5_shows_2 4 rfl rfl)
theorem dX5_shows_54 : decode cX5_shows 54 = .ok (.lstore 4, 2) := dk_55 4 (dk_at dksX5_shows_2 7 rfl rfl)
theorem dX5_shows_56 : decode cX5_shows 56 = .ok (.iinc 6 1, 3) := dk_132 6 1 (dk_at dksX5_shows_2 9 rfl rfl)
theorem dX5_shows_59 : decode cX5_shows 59 = .ok (.goto (-53), 3) := dk_167 255 203 (dk_at dksX5_shows_2 12 rfl rfl)
theorem dX5_shows_62 : decode cX5_shows 62 = .ok (.return_, 1) := dk_177 (dk_at dksX5_shows_2 15 rfl rfl)
abbrev cX5_mishap : ByteArray := prog_4_method_3_code
def yX5_mishap : MethodName := ⟨RX5, "mishap", "(IIII)V"⟩
def dkwX5_mishap_2 : List UInt8 := [181, 0, 59, 177]
abbrev dktX5_mishap_2 : List UInt8 := dkwX5_mishap_2 ++ []
def dkwX5_mishap_1 : List UInt8 := [42, 180, 0, 59, 29, 79, 42, 180, 0, 21, 42, 180, 0, 59, 21, 4, 79, 42, 89, 180, 0, 59, 4, 96]
abbrev dktX5_mishap_1 : List UInt8 := dkwX5_mishap_1 ++ dktX5_mishap_2
def dkwX5_mishap_0 : List UInt8 := [42, 180, 0, 9, 42, 180, 0, 59, 27, 79, 42, 180, 0, 15, 42, 180, 0, 59, 28, 79, 42, 180, 0, 18]
abbrev dktX5_mishap_0 : List UInt8 := dkwX5_mishap_0 ++ dktX5_mishap_1
theorem dksX5_mishap_0 : cX5_mishap.data.toList.drop 0 = dktX5_mishap_0 := by decide +kernel
theorem dksX5_mishap_1 : cX5_mishap.data.toList.drop 24 = dktX5_mishap_1 := dk_seg dksX5_mishap_0 24 rfl rfl
theorem dksX5_mishap_2 : cX5_mishap.data.toList.drop 48 = dktX5_mishap_2 := dk_seg dksX5_mishap_1 24 rfl rfl
theorem dX5_mishap_0 : decode cX5_mishap 0 = .ok (.aload_n 0, 1) := dk_42 (dk_at dksX5_mishap_0 0 rfl rfl)
theorem dX5_mishap_1 : decode cX5_mishap 1 = .ok (.getfield 9, 3) := dk_180 0 9 (dk_at dksX5_mishap_0 1 rfl rfl)
theorem dX5_mishap_4 : decode cX5_mishap 4 = .ok (.aload_n 0, 1) := dk_42 (dk_at dksX5_mishap_0 4 rfl rfl)
theorem dX5_mishap_5 : decode cX5_mishap 5 = .ok (.getfield 59, 3) := dk_180 0 59 (dk_at dksX5_mishap_0 5 rfl rfl)
theorem dX5_mishap_8 : decode cX5_mishap 8 = .ok (.iload_n 1, 1) := dk_27 (dk_at dksX5_mishap_0 8 rfl rfl)
theorem dX5_mishap_9 : decode cX5_mishap 9 = .ok (.iastore, 1) := dk_79 (dk_at dksX5_mishap_0 9 rfl rfl)
theorem dX5_mishap_10 : decode cX5_mishap 10 = .ok (.aload_n 0, 1) := dk_42 (dk_at dksX5_mishap_0 10 rfl rfl)
theorem dX5_mishap_11 : decode cX5_mishap 11 = .ok (.getfield 15, 3) := dk_180 0 15 (dk_at dksX5_mishap_0 11 rfl rfl)
theorem dX5_mishap_14 : decode cX5_mishap 14 = .ok (.aload_n 0, 1) := dk_42 (dk_at dksX5_mishap_0 14 rfl rfl)
theorem dX5_mishap_15 : decode cX5_mishap 15 = .ok (.getfield 59, 3) := dk_180 0 59 (dk_at dksX5_mishap_0 15 rfl rfl)
theorem dX5_mishap_18 : decode cX5_mishap 18 = .ok (.iload_n 2, 1) := dk_28 (dk_at dksX5_mishap_0 18 rfl rfl)
theorem dX5_mishap_19 : decode cX5_mishap 19 = .ok (.iastore, 1) := dk_79 (dk_at dksX5_mishap_0 19 rfl rfl)
theorem dX5_mishap_20 : decode cX5_mishap 20 = .ok (.aload_n 0, 1) := dk_42 (dk_at dksX5_mishap_0 20 rfl rfl)
theorem dX5_mishap_21 : decode cX5_mishap 21 = .ok (.getfield 18, 3) := dk_180 0 18 (dk_at dksX5_mishap_0 21 rfl rfl)
theorem dX5_mishap_24 : decode cX5_mishap 24 = .ok (.aload_n 0, 1) := dk_42 (dk_at dksX5_mishap_1 0 rfl rfl)
theorem dX5_mishap_25 : decode cX5_mishap 25 = .ok (.getfield 59, 3) := dk_180 0 59 (dk_at dksX5_mishap_1 1 rfl rfl)
theorem dX5_mishap_28 : decode cX5_mishap 28 = .ok (.iload_n 3, 1) := dk_29 (dk_at dksX5_mishap_1 4 rfl rfl)
theorem dX5_mishap_29 : decode cX5_mishap 29 = .ok (.iastore, 1) := dk_79 (dk_at dksX5_mishap_1 5 rfl rfl)
theorem dX5_mishap_30 : decode cX5_mishap 30 = .ok (.aload_n 0, 1) := dk_42 (dk_at dksX5_mishap_1 6 rfl rfl)
theorem dX5_mishap_31 : decode cX5_mishap 31 = .ok (.getfield 21, 3) := dk_180 0 21 (dk_at dksX5_mishap_1 7 rfl rfl)
theorem dX5_mishap_34 : decode cX5_mishap 34 = .ok (.aload_n 0, 1) := dk_42 (dk_at dksX5_mishap_1 10 rfl rfl)
theorem dX5_mishap_35 : decode cX5_mishap 35 = .ok (.getfield 59, 3) := dk_180 0 59 (dk_at dksX5_mishap_1 11 rfl rfl)
theorem dX5_mishap_38 : decode cX5_mishap 38 = .ok (.iload 4, 2) := dk_21 4 (dk_at dksX5_mishap_1 14 rfl rfl)
theorem dX5_mishap_40 : decode cX5_mishap 40 = .ok (.iastore, 1) := dk_79 (dk_at dksX5_mishap_1 16 rfl rfl)
theorem dX5_mishap_41 : decode cX5_mishap 41 = .ok (.aload_n 0, 1) := dk_42 (dk_at dksX5_mishap_1 17 rfl rfl)
theorem dX5_mishap_42 : decode cX5_mishap 42 = .ok (.dup, 1) := dk_89 (dk_at dksX5_mishap_1 18 rfl rfl)
theorem dX5_mishap_43 : decode cX5_mishap 43 = .ok (.getfield 59, 3) := dk_180 0 59 (dk_at dksX5_mishap_1 19 rfl rfl)
theorem dX5_mishap_46 : decode cX5_mishap 46 = .ok (.iconst 1, 1) := dk_4 (dk_at dksX5_mishap_1 22 rfl rfl)
theorem dX5_mishap_47 : decode cX5_mishap 47 = .ok (.iadd, 1) := dk_96 (dk_at dksX5_mishap_1 23 rfl rfl)
theorem dX5_mishap_48 : decode cX5_mishap 48 = .ok (.putfield 59, 3) := dk_181 0 59 (dk_at dksX5_mishap_2 0 rfl rfl)
theorem dX5_mishap_51 : decode cX5_mishap 51 = .ok (.return_, 1) := dk_177 (dk_at dksX5_mishap_2 3 rfl rfl)
abbrev cX5_turns : ByteArray := prog_4_method_6_code
def yX5_turns : MethodName := ⟨RX5, "turns", "()V"⟩
def dkwX5_turns_6 : List UInt8 := [100, 167, 0, 13, 44, 42, 180, 0, 18, 27, 46, 46, 4, 100, 79, 132, 1, 1, 167, 255, 160, 177]
abbrev dktX5_turns_6 : List UInt8 := dkwX5_turns_6 ++ []
def dkwX5_turns_5 : List UInt8 := [46, 44, 42, 180, 0, 18, 27, 46, 46, 154, 0, 19, 42, 180, 0, 35, 42, 180, 0, 18, 27, 46, 46, 4]
abbrev dktX5_turns_5 : List UInt8 := dkwX5_turns_5 ++ dktX5_turns_6
def dkwX5_turns_4 : List UInt8 := [167, 0, 63, 42, 180, 0, 46, 42, 180, 0, 15, 27, 46, 50, 180, 0, 53, 77, 44, 42, 180, 0, 18, 27]
abbrev dktX5_turns_4 : List UInt8 := dkwX5_turns_4 ++ dktX5_turns_5
def dkwX5_turns_3 : List UInt8 := [42, 180, 0, 9, 27, 46, 42, 180, 0, 56, 160, 0, 75, 42, 180, 0, 21, 27, 46, 153, 0, 6]
abbrev dktX5_turns_3 : List UInt8 := dkwX5_turns_3 ++ dktX5_turns_4
def dkwX5_turns_2 : List UInt8 := [42, 27, 27, 4, 96, 182, 0, 66, 132, 1, 2, 167, 255, 235, 3, 60, 27, 42, 180, 0, 59, 162, 0, 94]
abbrev dktX5_turns_2 : List UInt8 := dkwX5_turns_2 ++ dktX5_turns_3
def dkwX5_turns_1 : List UInt8 := [27, 4, 96, 182, 0, 66, 132, 1, 2, 167, 255, 235, 4, 60, 27, 4, 96, 42, 180, 0, 28, 162, 0, 17]
abbrev dktX5_turns_1 : List UInt8 := dkwX5_turns_1 ++ dktX5_turns_2
def dkwX5_turns_0 : List UInt8 := [42, 89, 180, 0, 56, 4, 96, 181, 0, 56, 3, 60, 27, 4, 96, 42, 180, 0, 28, 162, 0, 17, 42, 27]
abbrev dktX5_turns_0 : List UInt8 := dkwX5_turns_0 ++ dktX5_turns_1
theorem dksX5_turns_0 : cX5_turns.data.toList.drop 0 = dktX5_turns_0 := by decide +kernel
theorem dksX5_turns_1 : cX5_turns.data.toList.drop 24 = dktX5_turns_1 := dk_seg dksX5_turns_0 24 rfl rfl
theorem dksX5_turns_2 : cX5_turns.data.toList.drop 48 = dktX5_turns_2 := dk_seg dksX5_turns_1 24 rfl rfl
theorem dksX5_turns_3 : cX5_turns.data.toList.drop 72 = dktX5_turns_3 := dk_seg dksX5_turns_2 24 rfl rfl
theorem dksX5_turns_4 : cX5_turns.data.toList.drop 94 = dktX5_turns_4 := dk_seg dksX5_turns_3 22 rfl rfl
theorem dksX5_turns_5 : cX5_turns.data.toList.drop 118 = dktX5_turns_5 := dk_seg dksX5_turns_4 24 rfl rfl
theorem dksX5_turns_6 : cX5_turns.data.toList.drop 142 = dktX5_turns_6 := dk_seg dksX5_turns_5 24 rfl rfl
theorem dX5_turns_0 : decode cX5_turns 0 = .ok (.aload_n 0, 1) := dk_42 (dk_at dksX5_turns_0 0 rfl rfl)
theorem dX5_turns_1 : decode cX5_turns 1 = .ok (.dup, 1) := dk_89 (dk_at dksX5_turns_0 1 rfl rfl)
theorem dX5_turns_2 : decode cX5_turns 2 = .ok (.getfield 56, 3) := dk_180 0 56 (dk_at dksX5_turns_0 2 rfl rfl)
theorem dX5_turns_5 : decode cX5_turns 5 = .ok (.iconst 1, 1) := dk_4 (dk_at dksX5_turns_0 5 rfl rfl)
theorem dX5_turns_6 : decode cX5_turns 6 = .ok (.iadd, 1) := dk_96 (dk_at dksX5_turns_0 6 rfl rfl)
theorem dX5_turns_7 : decode cX5_turns 7 = .ok (.putfield 56, 3) := dk_181 0 56 (dk_at dksX5_turns_0 7 rfl rfl)
theorem dX5_turns_10 : decode cX5_turns 10 = .ok (.iconst 0, 1) := dk_3 (dk_at dksX5_turns_0 10 rfl rfl)
theorem dX5_turns_11 : decode cX5_turns 11 = .ok (.istore_n 1, 1) := dk_60 (dk_at dksX5_turns_0 11 rfl rfl)
theorem dX5_turns_12 : decode cX5_turns 12 = .ok (.iload_n 1, 1) := dk_27 (dk_at dksX5_turns_0 12 rfl rfl)
theorem dX5_turns_13 : decode cX5_turns 13 = .ok (.iconst 1, 1) := dk_4 (dk_at dksX5_turns_0 13 rfl rfl)
theorem dX5_turns_14 : decode cX5_turns 14 = .ok (.iadd, 1) := dk_96 (dk_at dksX5_turns_0 14 rfl rfl)
theorem dX5_turns_15 : decode cX5_turns 15 = .ok (.aload_n 0, 1) := dk_42 (dk_at dksX5_turns_0 15 rfl rfl)
theorem dX5_turns_16 : decode cX5_turns 16 = .ok (.getfield 28, 3) := dk_180 0 28 (dk_at dksX5_turns_0 16 rfl rfl)
theorem dX5_turns_19 : decode cX5_turns 19 = .ok (.if_icmp .ge 17, 3) := dk_162 0 17 (dk_at dksX5_turns_0 19 rfl rfl)
theorem dX5_turns_22 : decode cX5_turns 22 = .ok (.aload_n 0, 1) := dk_42 (dk_at dksX5_turns_0 22 rfl rfl)
theorem dX5_turns_23 : decode cX5_turns 23 = .ok (.iload_n 1, 1) := dk_27 (dk_at dksX5_turns_0 23 rfl rfl)
theorem dX5_turns_24 : decode cX5_turns 24 = .ok (.iload_n 1, 1) := dk_27 (dk_at dksX5_turns_1 0 rfl rfl)
theorem dX5_turns_25 : decode cX5_turns 25 = .ok (.iconst 1, 1) := dk_4 (dk_at dksX5_turns_1 1 rfl rfl)
theorem dX5_turns_26 : decode cX5_turns 26 = .ok (.iadd, 1) := dk_96 (dk_at dksX5_turns_1 2 rfl rfl)
theorem dX5_turns_27 : decode cX5_turns 27 = .ok (.invokevirtual 66, 3) := dk_182 0 66 (dk_at dksX5_turns_1 3 rfl rfl)
theorem dX5_turns_30 : decode cX5_turns 30 = .ok (.iinc 1 2, 3) := dk_132 1 2 (dk_at dksX5_turns_1 6 rfl rfl)
theorem dX5_turns_33 : decode cX5_turns 33 = .ok (.goto (-21), 3) := dk_167 255 235 (dk_at dksX5_turns_1 9 rfl rfl)
theorem dX5_turns_36 : decode cX5_turns 36 = .ok (.iconst 1, 1) := dk_4 (dk_at dksX5_turns_1 12 rfl rfl)
theorem dX5_turns_37 : decode cX5_turns 37 = .ok (.istore_n 1, 1) := dk_60 (dk_at dksX5_turns_1 13 rfl rfl)
theorem dX5_turns_38 : decode cX5_turns 38 = .ok (.iload_n 1, 1) := dk_27 (dk_at dksX5_turns_1 14 rfl rfl)
theorem dX5_turns_39 : decode cX5_turns 39 = .ok (.iconst 1, 1) := dk_4 (dk_at dksX5_turns_1 15 rfl rfl)
theorem dX5_turns_40 : decode cX5_turns 40 = .ok (.iadd, 1) := dk_96 (dk_at dksX5_turns_1 16 rfl rfl)
theorem dX5_turns_41 : decode cX5_turns 41 = .ok (.aload_n 0, 1) := dk_42 (dk_at dksX5_turns_1 17 rfl rfl)
theorem dX5_turns_42 : decode cX5_turns 42 = .ok (.getfield 28, 3) := dk_180 0 28 (dk_at dksX5_turns_1 18 rfl rfl)
theorem dX5_turns_45 : decode cX5_turns 45 = .ok (.if_icmp .ge 17, 3) := dk_162 0 17 (dk_at dksX5_turns_1 21 rfl rfl)
theorem dX5_turns_48 : decode cX5_turns 48 = .ok (.aload_n 0, 1) := dk_42 (dk_at dksX5_turns_2 0 rfl rfl)
theorem dX5_turns_49 : decode cX5_turns 49 = .ok (.iload_n 1, 1) := dk_27 (dk_at dksX5_turns_2 1 rfl rfl)
theorem dX5_turns_50 : decode cX5_turns 50 = .ok (.iload_n 1, 1) := dk_27 (dk_at dksX5_turns_2 2 rfl rfl)
theorem dX5_turns_51 : decode cX5_turns 51 = .ok (.iconst 1, 1) := dk_4 (dk_at dksX5_turns_2 3 rfl rfl)
theorem dX5_turns_52 : decode cX5_turns 52 = .ok (.iadd, 1) := dk_96 (dk_at dksX5_turns_2 4 rfl rfl)
theorem dX5_turns_53 : decode cX5_turns 53 = .ok (.invokevirtual 66, 3) := dk_182 0 66 (dk_at dksX5_turns_2 5 rfl rfl)
theorem dX5_turns_56 : decode cX5_turns 56 = .ok (.iinc 1 2, 3) := dk_132 1 2 (dk_at dksX5_turns_2 8 rfl rfl)
theorem dX5_turns_59 : decode cX5_turns 59 = .ok (.goto (-21), 3) := dk_167 255 235 (dk_at dksX5_turns_2 11 rfl rfl)
theorem dX5_turns_62 : decode cX5_turns 62 = .ok (.iconst 0, 1) := dk_3 (dk_at dksX5_turns_2 14 rfl rfl)
theorem dX5_turns_63 : decode cX5_turns 63 = .ok (.istore_n 1, 1) := dk_60 (dk_at dksX5_turns_2 15 rfl rfl)
theorem dX5_turns_64 : decode cX5_turns 64 = .ok (.iload_n 1, 1) := dk_27 (dk_at dksX5_turns_2 16 rfl rfl)
theorem dX5_turns_65 : decode cX5_turns 65 = .ok (.aload_n 0, 1) := dk_42 (dk_at dksX5_turns_2 17 rfl rfl)
theorem dX5_turns_66 : decode cX5_turns 66 = .ok (.getfield 59, 3) := dk_180 0 59 (dk_at dksX5_turns_2 18 rfl rfl)
theorem dX5_turns_69 : decode cX5_turns 69 = .ok (.if_icmp .ge 94, 3) := dk_162 0 94 (dk_at dksX5_turns_2 21 rfl rfl)
theorem dX5_turns_72 : decode cX5_turns 72 = .ok (.aload_n 0, 1) := dk_42 (dk_at dksX5_turns_3 0 rfl rfl)
theorem dX5_turns_73 : decode cX5_turns 73 = .ok (.getfield 9, 3) := dk_180 0 9 (dk_at dksX5_turns_3 1 rfl rfl)
theorem dX5_turns_76 : decode cX5_turns 76 = .ok (.iload_n 1, 1) := dk_27 (dk_at dksX5_turns_3 4 rfl rfl)
theorem dX5_turns_77 : decode cX5_turns 77 = .ok (.iaload, 1) := dk_46 (dk_at dksX5_turns_3 5 rfl rfl)
theorem dX5_turns_78 : decode cX5_turns 78 = .ok (.aload_n 0, 1) := dk_42 (dk_at dksX5_turns_3 6 rfl rfl)
theorem dX5_turns_79 : decode cX5_turns 79 = .ok (.getfield 56, 3) := dk_180 0 56 (dk_at dksX5_turns_3 7 rfl rfl)
theorem dX5_turns_82 : decode cX5_turns 82 = .ok (.if_icmp .ne 75, 3) := dk_160 0 75 (dk_at dksX5_turns_3 10 rfl rfl)
theorem dX5_turns_85 : decode cX5_turns 85 = .ok (.aload_n 0, 1) := dk_42 (dk_at dksX5_turns_3 13 rfl rfl)
theorem dX5_turns_86 : decode cX5_turns 86 = .ok (.getfield 21, 3) := dk_180 0 21 (dk_at dksX5_turns_3 14 rfl rfl)
theorem dX5_turns_89 : decode cX5_turns 89 = .ok (.iload_n 1, 1) := dk_27 (dk_at dksX5_turns_3 17 rfl rfl)
theorem dX5_turns_90 : decode cX5_turns 90 = .ok (.iaload, 1) := dk_46 (dk_at dksX5_turns_3 18 rfl rfl)
theorem dX5_turns_91 : decode cX5_turns 91 = .ok (.ifCond .eq 6, 3) := dk_153 0 6 (dk_at dksX5_turns_3 19 rfl rfl)
theorem dX5_turns_94 : decode cX5_turns 94 = .ok (.goto 63, 3) := dk_167 0 63 (dk_at dksX5_turns_4 0 rfl rfl)
theorem dX5_turns_97 : decode cX5_turns 97 = .ok (.aload_n 0, 1) := dk_42 (dk_at dksX5_turns_4 3 rfl rfl)
theorem dX5_turns_98 : decode cX5_turns 98 = .ok (.getfield 46, 3) := dk_180 0 46 (dk_at dksX5_turns_4 4 rfl rfl)
theorem dX5_turns_101 : decode cX5_turns 101 = .ok (.aload_n 0, 1) := dk_42 (dk_at dksX5_turns_4 7 rfl rfl)
theorem dX5_turns_102 : decode cX5_turns 102 = .ok (.getfield 15, 3) := dk_180 0 15 (dk_at dksX5_turns_4 8 rfl rfl)
theorem dX5_turns_105 : decode cX5_turns 105 = .ok (.iload_n 1, 1) := dk_27 (dk_at dksX5_turns_4 11 rfl rfl)
theorem dX5_turns_106 : decode cX5_turns 106 = .ok (.iaload, 1) := dk_46 (dk_at dksX5_turns_4 12 rfl rfl)
theorem dX5_turns_107 : decode cX5_turns 107 = .ok (.aaload, 1) := dk_50 (dk_at dksX5_turns_4 13 rfl rfl)
theorem dX5_turns_108 : decode cX5_turns 108 = .ok (.getfield 53, 3) := dk_180 0 53 (dk_at dksX5_turns_4 14 rfl rfl)
theorem dX5_turns_111 : decode cX5_turns 111 = .ok (.astore_n 2, 1) := dk_77 (dk_at dksX5_turns_4 17 rfl rfl)
theorem dX5_turns_112 : decode cX5_turns 112 = .ok (.aload_n 2, 1) := dk_44 (dk_at dksX5_turns_4 18 rfl rfl)
theorem dX5_turns_113 : decode cX5_turns 113 = .ok (.aload_n 0, 1) := dk_42 (dk_at dksX5_turns_4 19 rfl rfl)
theorem dX5_turns_114 : decode cX5_turns 114 = .ok (.getfield 18, 3) := dk_180 0 18 (dk_at dksX5_turns_4 20 rfl rfl)
theorem dX5_turns_117 : decode cX5_turns 117 = .ok (.iload_n 1, 1) := dk_27 (dk_at dksX5_turns_4 23 rfl rfl)
theorem dX5_turns_118 : decode cX5_turns 118 = .ok (.iaload, 1) := dk_46 (dk_at dksX5_turns_5 0 rfl rfl)
theorem dX5_turns_119 : decode cX5_turns 119 = .ok (.aload_n 2, 1) := dk_44 (dk_at dksX5_turns_5 1 rfl rfl)
theorem dX5_turns_120 : decode cX5_turns 120 = .ok (.aload_n 0, 1) := dk_42 (dk_at dksX5_turns_5 2 rfl rfl)
theorem dX5_turns_121 : decode cX5_turns 121 = .ok (.getfield 18, 3) := dk_180 0 18 (dk_at dksX5_turns_5 3 rfl rfl)
theorem dX5_turns_124 : decode cX5_turns 124 = .ok (.iload_n 1, 1) := dk_27 (dk_at dksX5_turns_5 6 rfl rfl)
theorem dX5_turns_125 : decode cX5_turns 125 = .ok (.iaload, 1) := dk_46 (dk_at dksX5_turns_5 7 rfl rfl)
theorem dX5_turns_126 : decode cX5_turns 126 = .ok (.iaload, 1) := dk_46 (dk_at dksX5_turns_5 8 rfl rfl)
theorem dX5_turns_127 : decode cX5_turns 127 = .ok (.ifCond .ne 19, 3) := dk_154 0 19 (dk_at dksX5_turns_5 9 rfl rfl)
theorem dX5_turns_130 : decode cX5_turns 130 = .ok (.aload_n 0, 1) := dk_42 (dk_at dksX5_turns_5 12 rfl rfl)
theorem dX5_turns_131 : decode cX5_turns 131 = .ok (.getfield 35, 3) := dk_180 0 35 (dk_at dksX5_turns_5 13 rfl rfl)
theorem dX5_turns_134 : decode cX5_turns 134 = .ok (.aload_n 0, 1) := dk_42 (dk_at dksX5_turns_5 16 rfl rfl)
theorem dX5_turns_135 : decode cX5_turns 135 = .ok (.getfield 18, 3) := dk_180 0 18 (dk_at dksX5_turns_5 17 rfl rfl)
theorem dX5_turns_138 : decode cX5_turns 138 = .ok (.iload_n 1, 1) := dk_27 (dk_at dksX5_turns_5 20 rfl rfl)
theorem dX5_turns_139 : decode cX5_turns 139 = .ok (.iaload, 1) := dk_46 (dk_at dksX5_turns_5 21 rfl rfl)
theorem dX5_turns_140 : decode cX5_turns 140 = .ok (.iaload, 1) := dk_46 (dk_at dksX5_turns_5 22 rfl rfl)
theorem dX5_turns_141 : decode cX5_turns 141 = .ok (.iconst 1, 1) := dk_4 (dk_at dksX5_turns_5 23 rfl rfl)
theorem dX5_turns_142 : decode cX5_turns 142 = .ok (.isub, 1) := dk_100 (dk_at dksX5_turns_6 0 rfl rfl)
theorem dX5_turns_143 : decode cX5_turns 143 = .ok (.goto 13, 3) := dk_167 0 13 (dk_at dksX5_turns_6 1 rfl rfl)
theorem dX5_turns_146 : decode cX5_turns 146 = .ok (.aload_n 2, 1) := dk_44 (dk_at dksX5_turns_6 4 rfl rfl)
theorem dX5_turns_147 : decode cX5_turns 147 = .ok (.aload_n 0, 1) := dk_42 (dk_at dksX5_turns_6 5 rfl rfl)
theorem dX5_turns_148 : decode cX5_turns 148 = .ok (.getfield 18, 3) := dk_180 0 18 (dk_at dksX5_turns_6 6 rfl rfl)
theorem dX5_turns_151 : decode cX5_turns 151 = .ok (.iload_n 1, 1) := dk_27 (dk_at dksX5_turns_6 9 rfl rfl)
theorem dX5_turns_152 : decode cX5_turns 152 = .ok (.iaload, 1) := dk_46 (dk_at dksX5_turns_6 10 rfl rfl)
theorem dX5_turns_153 : decode cX5_turns 153 = .ok (.iaload, 1) := dk_46 (dk_at dksX5_turns_6 11 rfl rfl)
theorem dX5_turns_154 : decode cX5_turns 154 = .ok (.iconst 1, 1) := dk_4 (dk_at dksX5_turns_6 12 rfl rfl)
theorem dX5_turns_155 : decode cX5_turns 155 = .ok (.isub, 1) := dk_100 (dk_at dksX5_turns_6 13 rfl rfl)
theorem dX5_turns_156 : decode cX5_turns 156 = .ok (.iastore, 1) := dk_79 (dk_at dksX5_turns_6 14 rfl rfl)
theorem dX5_turns_157 : decode cX5_turns 157 = .ok (.iinc 1 1, 3) := dk_132 1 1 (dk_at dksX5_turns_6 15 rfl rfl)
theorem dX5_turns_160 : decode cX5_turns 160 = .ok (.goto (-96), 3) := dk_167 255 160 (dk_at dksX5_turns_6 18 rfl rfl)
theorem dX5_turns_163 : decode cX5_turns 163 = .ok (.return_, 1) := dk_177 (dk_at dksX5_turns_6 21 rfl rfl)
abbrev cX5_adds : ByteArray := prog_4_method_5_code
def yX5_adds : MethodName := ⟨RX5, "adds", "(II)V"⟩
def dkwX5_adds_8 : List UInt8 := [79, 42, 180, 0, 24, 21, 5, 4, 96, 4, 84, 132, 5, 1, 167, 255, 168, 177]
abbrev dktX5_adds_8 : List UInt8 := dkwX5_adds_8 ++ []
def dkwX5_adds_7 : List UInt8 := [4, 96, 46, 42, 180, 0, 35, 21, 5, 4, 96, 46, 162, 0, 6, 167, 0, 20, 45, 21, 5, 4, 96, 3]
abbrev dktX5_adds_7 : List UInt8 := dkwX5_adds_7 ++ dktX5_adds_8
def dkwX5_adds_6 : List UInt8 := [96, 4, 182, 0, 62, 153, 0, 6, 167, 0, 51, 45, 21, 5, 4, 96, 92, 46, 4, 96, 79, 45, 21, 5]
abbrev dktX5_adds_6 : List UInt8 := dkwX5_adds_6 ++ dktX5_adds_7
def dkwX5_adds_5 : List UInt8 := [4, 96, 42, 180, 0, 32, 162, 0, 83, 42, 180, 0, 24, 21, 5, 51, 153, 0, 67, 42, 27, 21, 5, 4]
abbrev dktX5_adds_5 : List UInt8 := dkwX5_adds_5 ++ dktX5_adds_6
def dkwX5_adds_4 : List UInt8 := [21, 5, 46, 100, 79, 42, 180, 0, 24, 21, 5, 4, 84, 132, 5, 1, 167, 255, 171, 3, 54, 5, 21, 5]
abbrev dktX5_adds_4 : List UInt8 := dkwX5_adds_4 ++ dktX5_adds_5
def dkwX5_adds_3 : List UInt8 := [46, 42, 180, 0, 35, 21, 5, 46, 162, 0, 6, 167, 0, 25, 45, 21, 5, 92, 46, 42, 180, 0, 35]
abbrev dktX5_adds_3 : List UInt8 := dkwX5_adds_3 ++ dktX5_adds_4
def dkwX5_adds_2 : List UInt8 := [182, 0, 62, 153, 0, 6, 167, 0, 54, 45, 21, 5, 92, 46, 25, 4, 21, 5, 46, 96, 79, 45, 21, 5]
abbrev dktX5_adds_2 : List UInt8 := dkwX5_adds_2 ++ dktX5_adds_3
def dkwX5_adds_1 : List UInt8 := [21, 5, 42, 180, 0, 32, 162, 0, 82, 42, 180, 0, 24, 21, 5, 3, 84, 42, 27, 21, 5, 5]
abbrev dktX5_adds_1 : List UInt8 := dkwX5_adds_1 ++ dktX5_adds_2
def dkwX5_adds_0 : List UInt8 := [42, 180, 0, 46, 27, 50, 180, 0, 53, 78, 42, 180, 0, 46, 28, 50, 180, 0, 53, 58, 4, 3, 54, 5]
abbrev dktX5_adds_0 : List UInt8 := dkwX5_adds_0 ++ dktX5_adds_1
theorem dksX5_adds_0 : cX5_adds.data.toList.drop 0 = dktX5_adds_0 := by decide +kernel
theorem dksX5_adds_1 : cX5_adds.data.toList.drop 24 = dktX5_adds_1 := dk_seg dksX5_adds_0 24 rfl rfl
theorem dksX5_adds_2 : cX5_adds.data.toList.drop 46 = dktX5_adds_2 := dk_seg dksX5_adds_1 22 rfl rfl
theorem dksX5_adds_3 : cX5_adds.data.toList.drop 70 = dktX5_adds_3 := dk_seg dksX5_adds_2 24 rfl rfl
theorem dksX5_adds_4 : cX5_adds.data.toList.drop 93 = dktX5_adds_4 := dk_seg dksX5_adds_3 23 rfl rfl
theorem dksX5_adds_5 : cX5_adds.data.toList.drop 117 = dktX5_adds_5 := dk_seg dksX5_adds_4 24 rfl rfl
theorem dksX5_adds_6 : cX5_adds.data.toList.drop 141 = dktX5_adds_6 := dk_seg dksX5_adds_5 24 rfl rfl
theorem dksX5_adds_7 : cX5_adds.data.toList.drop 165 = dktX5_adds_7 := dk_seg dksX5_adds_6 24 rfl rfl
theorem dksX5_adds_8 : cX5_adds.data.toList.drop 189 = dktX5_adds_8 := dk_seg dksX5_adds_7 24 rfl rfl
theorem dX5_adds_0 : decode cX5_adds 0 = .ok (.aload_n 0, 1) := dk_42 (dk_at dksX5_adds_0 0 rfl rfl)
theorem dX5_adds_1 : decode cX5_adds 1 = .ok (.getfield 46, 3) := dk_180 0 46 (dk_at dksX5_adds_0 1 rfl rfl)
theorem dX5_adds_4 : decode cX5_adds 4 = .ok (.iload_n 1, 1) := dk_27 (dk_at dksX5_adds_0 4 rfl rfl)
theorem dX5_adds_5 : decode cX5_adds 5 = .ok (.aaload, 1) := dk_50 (dk_at dksX5_adds_0 5 rfl rfl)
theorem dX5_adds_6 : decode cX5_adds 6 = .ok (.getfield 53, 3) := dk_180 0 53 (dk_at dksX5_adds_0 6 rfl rfl)
theorem dX5_adds_9 : decode cX5_adds 9 = .ok (.astore_n 3, 1) := dk_78 (dk_at dksX5_adds_0 9 rfl rfl)
theorem dX5_adds_10 : decode cX5_adds 10 = .ok (.aload_n 0, 1) := dk_42 (dk_at dksX5_adds_0 10 rfl rfl)
theorem dX5_adds_11 : decode cX5_adds 11 = .ok (.getfield 46, 3) := dk_180 0 46 (dk_at dksX5_adds_0 11 rfl rfl)
theorem dX5_adds_14 : decode cX5_adds 14 = .ok (.iload_n 2, 1) := dk_28 (dk_at dksX5_adds_0 14 rfl rfl)
theorem dX5_adds_15 : decode cX5_adds 15 = .ok (.aaload, 1) := dk_50 (dk_at dksX5_adds_0 15 rfl rfl)
theorem dX5_adds_16 : decode cX5_adds 16 = .ok (.getfield 53, 3) := dk_180 0 53 (dk_at dksX5_adds_0 16 rfl rfl)
theorem dX5_adds_19 : decode cX5_adds 19 = .ok (.astore 4, 2) := dk_58 4 (dk_at dksX5_adds_0 19 rfl rfl)
theorem dX5_adds_21 : decode cX5_adds 21 = .ok (.iconst 0, 1) := dk_3 (dk_at dksX5_adds_0 21 rfl rfl)
theorem dX5_adds_22 : decode cX5_adds 22 = .ok (.istore 5, 2) := dk_54 5 (dk_at dksX5_adds_0 22 rfl rfl)
theorem dX5_adds_24 : decode cX5_adds 24 = .ok (.iload 5, 2) := dk_21 5 (dk_at dksX5_adds_1 0 rfl rfl)
theorem dX5_adds_26 : decode cX5_adds 26 = .ok (.aload_n 0, 1) := dk_42 (dk_at dksX5_adds_1 2 rfl rfl)
theorem dX5_adds_27 : decode cX5_adds 27 = .ok (.getfield 32, 3) := dk_180 0 32 (dk_at dksX5_adds_1 3 rfl rfl)
theorem dX5_adds_30 : decode cX5_adds 30 = .ok (.if_icmp .ge 82, 3) := dk_162 0 82 (dk_at dksX5_adds_1 6 rfl rfl)
theorem dX5_adds_33 : decode cX5_adds 33 = .ok (.aload_n 0, 1) := dk_42 (dk_at dksX5_adds_1 9 rfl rfl)
theorem dX5_adds_34 : decode cX5_adds 34 = .ok (.getfield 24, 3) := dk_180 0 24 (dk_at dksX5_adds_1 10 rfl rfl)
theorem dX5_adds_37 : decode cX5_adds 37 = .ok (.iload 5, 2) := dk_21 5 (dk_at dksX5_adds_1 13 rfl rfl)
theorem dX5_adds_39 : decode cX5_adds 39 = .ok (.iconst 0, 1) := dk_3 (dk_at dksX5_adds_1 15 rfl rfl)
theorem dX5_adds_40 : decode cX5_adds 40 = .ok (.bastore, 1) := dk_84 (dk_at dksX5_adds_1 16 rfl rfl)
theorem dX5_adds_41 : decode cX5_adds 41 = .ok (.aload_n 0, 1) := dk_42 (dk_at dksX5_adds_1 17 rfl rfl)
theorem dX5_adds_42 : decode cX5_adds 42 = .ok (.iload_n 1, 1) := dk_27 (dk_at dksX5_adds_1 18 rfl rfl)
theorem dX5_adds_43 : decode cX5_adds 43 = .ok (.iload 5, 2) := dk_21 5 (dk_at dksX5_adds_1 19 rfl rfl)
theorem dX5_adds_45 : decode cX5_adds 45 = .ok (.iconst 2, 1) := dk_5 (dk_at dksX5_adds_1 21 rfl rfl)
theorem dX5_adds_46 : decode cX5_adds 46 = .ok (.invokevirtual 62, 3) := dk_182 0 62 (dk_at dksX5_adds_2 0 rfl rfl)
theorem dX5_adds_49 : decode cX5_adds 49 = .ok (.ifCond .eq 6, 3) := dk_153 0 6 (dk_at dksX5_adds_2 3 rfl rfl)
theorem dX5_adds_52 : decode cX5_adds 52 = .ok (.goto 54, 3) := dk_167 0 54 (dk_at dksX5_adds_2 6 rfl rfl)
theorem dX5_adds_55 : decode cX5_adds 55 = .ok (.aload_n 3, 1) := dk_45 (dk_at dksX5_adds_2 9 rfl rfl)
theorem dX5_adds_56 : decode cX5_adds 56 = .ok (.iload 5, 2) := dk_21 5 (dk_at dksX5_adds_2 10 rfl rfl)
theorem dX5_adds_58 : decode cX5_adds 58 = .ok (.dup2, 1) := dk_92 (dk_at dksX5_adds_2 12 rfl rfl)
theorem dX5_adds_59 : decode cX5_adds 59 = .ok (.iaload, 1) := dk_46 (dk_at dksX5_adds_2 13 rfl rfl)
theorem dX5_adds_60 : decode cX5_adds 60 = .ok (.aload 4, 2) := dk_25 4 (dk_at dksX5_adds_2 14 rfl rfl)
theorem dX5_adds_62 : decode cX5_adds 62 = .ok (.iload 5, 2) := dk_21 5 (dk_at dksX5_adds_2 16 rfl rfl)
theorem dX5_adds_64 : decode cX5_adds 64 = .ok (.iaload, 1) := dk_46 (dk_at dksX5_adds_2 18 rfl rfl)
theorem dX5_adds_65 : decode cX5_adds 65 = .ok (.iadd, 1) := dk_96 (dk_at dksX5_adds_2 19 rfl rfl)
theorem dX5_adds_66 : decode cX5_adds 66 = .ok (.iastore, 1) := dk_79 (dk_at dksX5_adds_2 20 rfl rfl)
theorem dX5_adds_67 : decode cX5_adds 67 = .ok (.aload_n 3, 1) := dk_45 (dk_at dksX5_adds_2 21 rfl rfl)
theorem dX5_adds_68 : decode cX5_adds 68 = .ok (.iload 5, 2) := dk_21 5 (dk_at dksX5_adds_2 22 rfl rfl)
theorem dX5_adds_70 : decode cX5_adds 70 = .ok (.iaload, 1) := dk_46 (dk_at dksX5_adds_3 0 rfl rfl)
theorem dX5_adds_71 : decode cX5_adds 71 = .ok (.aload_n 0, 1) := dk_42 (dk_at dksX5_adds_3 1 rfl rfl)
theorem dX5_adds_72 : decode cX5_adds 72 = .ok (.getfield 35, 3) := dk_180 0 35 (dk_at dksX5_adds_3 2 rfl rfl)
theorem dX5_adds_75 : decode cX5_adds 75 = .ok (.iload 5, 2) := dk_21 5 (dk_at dksX5_adds_3 5 rfl rfl)
theorem dX5_adds_77 : decode cX5_adds 77 = .ok (.iaload, 1) := dk_46 (dk_at dksX5_adds_3 7 rfl rfl)
theorem dX5_adds_78 : decode cX5_adds 78 = .ok (.if_icmp .ge 6, 3) := dk_162 0 6 (dk_at dksX5_adds_3 8 rfl rfl)
theorem dX5_adds_81 : decode cX5_adds 81 = .ok (.goto 25, 3) := dk_167 0 25 (dk_at dksX5_adds_3 11 rfl rfl)
theorem dX5_adds_84 : decode cX5_adds 84 = .ok (.aload_n 3, 1) := dk_45 (dk_at dksX5_adds_3 14 rfl rfl)
theorem dX5_adds_85 : decode cX5_adds 85 = .ok (.iload 5, 2) := dk_21 5 (dk_at dksX5_adds_3 15 rfl rfl)
theorem dX5_adds_87 : decode cX5_adds 87 = .ok (.dup2, 1) := dk_92 (dk_at dksX5_adds_3 17 rfl rfl)
theorem dX5_adds_88 : decode cX5_adds 88 = .ok (.iaload, 1) := dk_46 (dk_at dksX5_adds_3 18 rfl rfl)
theorem dX5_adds_89 : decode cX5_adds 89 = .ok (.aload_n 0, 1) := dk_42 (dk_at dksX5_adds_3 19 rfl rfl)
theorem dX5_adds_90 : decode cX5_adds 90 = .ok (.getfield 35, 3) := dk_180 0 35 (dk_at dksX5_adds_3 20 rfl rfl)
theorem dX5_adds_93 : decode cX5_adds 93 = .ok (.iload 5, 2) := dk_21 5 (dk_at dksX5_adds_4 0 rfl rfl)
theorem dX5_adds_95 : decode cX5_adds 95 = .ok (.iaload, 1) := dk_46 (dk_at dksX5_adds_4 2 rfl rfl)
theorem dX5_adds_96 : decode cX5_adds 96 = .ok (.isub, 1) := dk_100 (dk_at dksX5_adds_4 3 rfl rfl)
theorem dX5_adds_97 : decode cX5_adds 97 = .ok (.iastore, 1) := dk_79 (dk_at dksX5_adds_4 4 rfl rfl)
theorem dX5_adds_98 : decode cX5_adds 98 = .ok (.aload_n 0, 1) := dk_42 (dk_at dksX5_adds_4 5 rfl rfl)
theorem dX5_adds_99 : decode cX5_adds 99 = .ok (.getfield 24, 3) := dk_180 0 24 (dk_at dksX5_adds_4 6 rfl rfl)
theorem dX5_adds_102 : decode cX5_adds 102 = .ok (.iload 5, 2) := dk_21 5 (dk_at dksX5_adds_4 9 rfl rfl)
theorem dX5_adds_104 : decode cX5_adds 104 = .ok (.iconst 1, 1) := dk_4 (dk_at dksX5_adds_4 11 rfl rfl)
theorem dX5_adds_105 : decode cX5_adds 105 = .ok (.bastore, 1) := dk_84 (dk_at dksX5_adds_4 12 rfl rfl)
theorem dX5_adds_106 : decode cX5_adds 106 = .ok (.iinc 5 1, 3) := dk_132 5 1 (dk_at dksX5_adds_4 13 rfl rfl)
theorem dX5_adds_109 : decode cX5_adds 109 = .ok (.goto (-85), 3) := dk_167 255 171 (dk_at dksX5_adds_4 16 rfl rfl)
theorem dX5_adds_112 : decode cX5_adds 112 = .ok (.iconst 0, 1) := dk_3 (dk_at dksX5_adds_4 19 rfl rfl)
theorem dX5_adds_113 : decode cX5_adds 113 = .ok (.istore 5, 2) := dk_54 5 (dk_at dksX5_adds_4 20 rfl rfl)
theorem dX5_adds_115 : decode cX5_adds 115 = .ok (.iload 5, 2) := dk_21 5 (dk_at dksX5_adds_4 22 rfl rfl)
theorem dX5_adds_117 : decode cX5_adds 117 = .ok (.iconst 1, 1) := dk_4 (dk_at dksX5_adds_5 0 rfl rfl)
theorem dX5_adds_118 : decode cX5_adds 118 = .ok (.iadd, 1) := dk_96 (dk_at dksX5_adds_5 1 rfl rfl)
theorem dX5_adds_119 : decode cX5_adds 119 = .ok (.aload_n 0, 1) := dk_42 (dk_at dksX5_adds_5 2 rfl rfl)
theorem dX5_adds_120 : decode cX5_adds 120 = .ok (.getfield 32, 3) := dk_180 0 32 (dk_at dksX5_adds_5 3 rfl rfl)
theorem dX5_adds_123 : decode cX5_adds 123 = .ok (.if_icmp .ge 83, 3) := dk_162 0 83 (dk_at dksX5_adds_5 6 rfl rfl)
theorem dX5_adds_126 : decode cX5_adds 126 = .ok (.aload_n 0, 1) := dk_42 (dk_at dksX5_adds_5 9 rfl rfl)
theorem dX5_adds_127 : decode cX5_adds 127 = .ok (.getfield 24, 3) := dk_180 0 24 (dk_at dksX5_adds_5 10 rfl rfl)
theorem dX5_adds_130 : decode cX5_adds 130 = .ok (.iload 5, 2) := dk_21 5 (dk_at dksX5_adds_5 13 rfl rfl)
theorem dX5_adds_132 : decode cX5_adds 132 = .ok (.baload, 1) := dk_51 (dk_at dksX5_adds_5 15 rfl rfl)
theorem dX5_adds_133 : decode cX5_adds 133 = .ok (.ifCond .eq 67, 3) := dk_153 0 67 (dk_at dksX5_adds_5 16 rfl rfl)
theorem dX5_adds_136 : decode cX5_adds 136 = .ok (.aload_n 0, 1) := dk_42 (dk_at dksX5_adds_5 19 rfl rfl)
theorem dX5_adds_137 : decode cX5_adds 137 = .ok (.iload_n 1, 1) := dk_27 (dk_at dksX5_adds_5 20 rfl rfl)
theorem dX5_adds_138 : decode cX5_adds 138 = .ok (.iload 5, 2) := dk_21 5 (dk_at dksX5_adds_5 21 rfl rfl)
theorem dX5_adds_140 : decode cX5_adds 140 = .ok (.iconst 1, 1) := dk_4 (dk_at dksX5_adds_5 23 rfl rfl)
theorem dX5_adds_141 : decode cX5_adds 141 = .ok (.iadd, 1) := dk_96 (dk_at dksX5_adds_6 0 rfl rfl)
theorem dX5_adds_142 : decode cX5_adds 142 = .ok (.iconst 1, 1) := dk_4 (dk_at dksX5_adds_6 1 rfl rfl)
theorem dX5_adds_143 : decode cX5_adds 143 = .ok (.invokevirtual 62, 3) := dk_182 0 62 (dk_at dksX5_adds_6 2 rfl rfl)
theorem dX5_adds_146 : decode cX5_adds 146 = .ok (.ifCond .eq 6, 3) := dk_153 0 6 (dk_at dksX5_adds_6 5 rfl rfl)
theorem dX5_adds_149 : decode cX5_adds 149 = .ok (.goto 51, 3) := dk_167 0 51 (dk_at dksX5_adds_6 8 rfl rfl)
theorem dX5_adds_152 : decode cX5_adds 152 = .ok (.aload_n 3, 1) := dk_45 (dk_at dksX5_adds_6 11 rfl rfl)
theorem dX5_adds_153 : decode cX5_adds 153 = .ok (.iload 5, 2) := dk_21 5 (dk_at dksX5_adds_6 12 rfl rfl)
theorem dX5_adds_155 : decode cX5_adds 155 = .ok (.iconst 1, 1) := dk_4 (dk_at dksX5_adds_6 14 rfl rfl)
theorem dX5_adds_156 : decode cX5_adds 156 = .ok (.iadd, 1) := dk_96 (dk_at dksX5_adds_6 15 rfl rfl)
theorem dX5_adds_157 : decode cX5_adds 157 = .ok (.dup2, 1) := dk_92 (dk_at dksX5_adds_6 16 rfl rfl)
theorem dX5_adds_158 : decode cX5_adds 158 = .ok (.iaload, 1) := dk_46 (dk_at dksX5_adds_6 17 rfl rfl)
theorem dX5_adds_159 : decode cX5_adds 159 = .ok (.iconst 1, 1) := dk_4 (dk_at dksX5_adds_6 18 rfl rfl)
theorem dX5_adds_160 : decode cX5_adds 160 = .ok (.iadd, 1) := dk_96 (dk_at dksX5_adds_6 19 rfl rfl)
theorem dX5_adds_161 : decode cX5_adds 161 = .ok (.iastore, 1) := dk_79 (dk_at dksX5_adds_6 20 rfl rfl)
theorem dX5_adds_162 : decode cX5_adds 162 = .ok (.aload_n 3, 1) := dk_45 (dk_at dksX5_adds_6 21 rfl rfl)
theorem dX5_adds_163 : decode cX5_adds 163 = .ok (.iload 5, 2) := dk_21 5 (dk_at dksX5_adds_6 22 rfl rfl)
theorem dX5_adds_165 : decode cX5_adds 165 = .ok (.iconst 1, 1) := dk_4 (dk_at dksX5_adds_7 0 rfl rfl)
theorem dX5_adds_166 : decode cX5_adds 166 = .ok (.iadd, 1) := dk_96 (dk_at dksX5_adds_7 1 rfl rfl)
theorem dX5_adds_167 : decode cX5_adds 167 = .ok (.iaload, 1) := dk_46 (dk_at dksX5_adds_7 2 rfl rfl)
theorem dX5_adds_168 : decode cX5_adds 168 = .ok (.aload_n 0, 1) := dk_42 (dk_at dksX5_adds_7 3 rfl rfl)
theorem dX5_adds_169 : decode cX5_adds 169 = .ok (.getfield 35, 3) := dk_180 0 35 (dk_at dksX5_adds_7 4 rfl rfl)
theorem dX5_adds_172 : decode cX5_adds 172 = .ok (.iload 5, 2) := dk_21 5 (dk_at dksX5_adds_7 7 rfl rfl)
theorem dX5_adds_174 : decode cX5_adds 174 = .ok (.iconst 1, 1) := dk_4 (dk_at dksX5_adds_7 9 rfl rfl)
theorem dX5_adds_175 : decode cX5_adds 175 = .ok (.iadd, 1) := dk_96 (dk_at dksX5_adds_7 10 rfl rfl)
theorem dX5_adds_176 : decode cX5_adds 176 = .ok (.iaload, 1) := dk_46 (dk_at dksX5_adds_7 11 rfl rfl)
theorem dX5_adds_177 : decode cX5_adds 177 = .ok (.if_icmp .ge 6, 3) := dk_162 0 6 (dk_at dksX5_adds_7 12 rfl rfl)
theorem dX5_adds_180 : decode cX5_adds 180 = .ok (.goto 20, 3) := dk_167 0 20 (dk_at dksX5_adds_7 15 rfl rfl)
theorem dX5_adds_183 : decode cX5_adds 183 = .ok (.aload_n 3, 1) := dk_45 (dk_at dksX5_adds_7 18 rfl rfl)
theorem dX5_adds_184 : decode cX5_adds 184 = .ok (.iload 5, 2) := dk_21 5 (dk_at dksX5_adds_7 19 rfl rfl)
theorem dX5_adds_186 : decode cX5_adds 186 = .ok (.iconst 1, 1) := dk_4 (dk_at dksX5_adds_7 21 rfl rfl)
theorem dX5_adds_187 : decode cX5_adds 187 = .ok (.iadd, 1) := dk_96 (dk_at dksX5_adds_7 22 rfl rfl)
theorem dX5_adds_188 : decode cX5_adds 188 = .ok (.iconst 0, 1) := dk_3 (dk_at dksX5_adds_7 23 rfl rfl)
theorem dX5_adds_189 : decode cX5_adds 189 = .ok (.iastore, 1) := dk_79 (dk_at dksX5_adds_8 0 rfl rfl)
theorem dX5_adds_190 : decode cX5_adds 190 = .ok (.aload_n 0, 1) := dk_42 (dk_at dksX5_adds_8 1 rfl rfl)
theorem dX5_adds_191 : decode cX5_adds 191 = .ok (.getfield 24, 3) := dk_180 0 24 (dk_at dksX5_adds_8 2 rfl rfl)
theorem dX5_adds_194 : decode cX5_adds 194 = .ok (.iload 5, 2) := dk_21 5 (dk_at dksX5_adds_8 5 rfl rfl)
theorem dX5_adds_196 : decode cX5_adds 196 = .ok (.iconst 1, 1) := dk_4 (dk_at dksX5_adds_8 7 rfl rfl)
theorem dX5_adds_197 : decode cX5_adds 197 = .ok (.iadd, 1) := dk_96 (dk_at dksX5_adds_8 8 rfl rfl)
theorem dX5_adds_198 : decode cX5_adds 198 = .ok (.iconst 1, 1) := dk_4 (dk_at dksX5_adds_8 9 rfl rfl)
theorem dX5_adds_199 : decode cX5_adds 199 = .ok (.bastore, 1) := dk_84 (dk_at dksX5_adds_8 10 rfl rfl)
theorem dX5_adds_200 : decode cX5_adds 200 = .ok (.iinc 5 1, 3) := dk_132 5 1 (dk_at dksX5_adds_8 11 rfl rfl)
theorem dX5_adds_203 : decode cX5_adds 203 = .ok (.goto (-88), 3) := dk_167 255 168 (dk_at dksX5_adds_8 14 rfl rfl)
theorem dX5_adds_206 : decode cX5_adds 206 = .ok (.return_, 1) := dk_177 (dk_at dksX5_adds_8 17 rfl rfl)
abbrev cX5_has : ByteArray := prog_4_method_4_code
def yX5_has : MethodName := ⟨RX5, "has", "(III)Z"⟩
def dkwX5_has_2 : List UInt8 := [160, 0, 16, 42, 180, 0, 21, 21, 4, 46, 29, 160, 0, 5, 4, 172, 132, 4, 1, 167, 255, 195, 3, 172]
abbrev dktX5_has_2 : List UInt8 := dkwX5_has_2 ++ []
def dkwX5_has_1 : List UInt8 := [160, 0, 38, 42, 180, 0, 15, 21, 4, 46, 27, 160, 0, 27, 42, 180, 0, 18, 21, 4, 46, 28]
abbrev dktX5_has_1 : List UInt8 := dkwX5_has_1 ++ dktX5_has_2
def dkwX5_has_0 : List UInt8 := [3, 54, 4, 21, 4, 42, 180, 0, 59, 162, 0, 58, 42, 180, 0, 9, 21, 4, 46, 42, 180, 0, 56]
abbrev dktX5_has_0 : List UInt8 := dkwX5_has_0 ++ dktX5_has_1
theorem dksX5_has_0 : cX5_has.data.toList.drop 0 = dktX5_has_0 := by decide +kernel
theorem dksX5_has_1 : cX5_has.data.toList.drop 23 = dktX5_has_1 := dk_seg dksX5_has_0 23 rfl rfl
theorem dksX5_has_2 : cX5_has.data.toList.drop 45 = dktX5_has_2 := dk_seg dksX5_has_1 22 rfl rfl
theorem dX5_has_0 : decode cX5_has 0 = .ok (.iconst 0, 1) := dk_3 (dk_at dksX5_has_0 0 rfl rfl)
theorem dX5_has_1 : decode cX5_has 1 = .ok (.istore 4, 2) := dk_54 4 (dk_at dksX5_has_0 1 rfl rfl)
theorem dX5_has_3 : decode cX5_has 3 = .ok (.iload 4, 2) := dk_21 4 (dk_at dksX5_has_0 3 rfl rfl)
theorem dX5_has_5 : decode cX5_has 5 = .ok (.aload_n 0, 1) := dk_42 (dk_at dksX5_has_0 5 rfl rfl)
theorem dX5_has_6 : decode cX5_has 6 = .ok (.getfield 59, 3) := dk_180 0 59 (dk_at dksX5_has_0 6 rfl rfl)
theorem dX5_has_9 : decode cX5_has 9 = .ok (.if_icmp .ge 58, 3) := dk_162 0 58 (dk_at dksX5_has_0 9 rfl rfl)
theorem dX5_has_12 : decode cX5_has 12 = .ok (.aload_n 0, 1) := dk_42 (dk_at dksX5_has_0 12 rfl rfl)
theorem dX5_has_13 : decode cX5_has 13 = .ok (.getfield 9, 3) := dk_180 0 9 (dk_at dksX5_has_0 13 rfl rfl)
theorem dX5_has_16 : decode cX5_has 16 = .ok (.iload 4, 2) := dk_21 4 (dk_at dksX5_has_0 16 rfl rfl)
theorem dX5_has_18 : decode cX5_has 18 = .ok (.iaload, 1) := dk_46 (dk_at dksX5_has_0 18 rfl rfl)
theorem dX5_has_19 : decode cX5_has 19 = .ok (.aload_n 0, 1) := dk_42 (dk_at dksX5_has_0 19 rfl rfl)
theorem dX5_has_20 : decode cX5_has 20 = .ok (.getfield 56, 3) := dk_180 0 56 (dk_at dksX5_has_0 20 rfl rfl)
theorem dX5_has_23 : decode cX5_has 23 = .ok (.if_icmp .ne 38, 3) := dk_160 0 38 (dk_at dksX5_has_1 0 rfl rfl)
theorem dX5_has_26 : decode cX5_has 26 = .ok (.aload_n 0, 1) := dk_42 (dk_at dksX5_has_1 3 rfl rfl)
theorem dX5_has_27 : decode cX5_has 27 = .ok (.getfield 15, 3) := dk_180 0 15 (dk_at dksX5_has_1 4 rfl rfl)
theorem dX5_has_30 : decode cX5_has 30 = .ok (.iload 4, 2) := dk_21 4 (dk_at dksX5_has_1 7 rfl rfl)
theorem dX5_has_32 : decode cX5_has 32 = .ok (.iaload, 1) := dk_46 (dk_at dksX5_has_1 9 rfl rfl)
theorem dX5_has_33 : decode cX5_has 33 = .ok (.iload_n 1, 1) := dk_27 (dk_at dksX5_has_1 10 rfl rfl)
theorem dX5_has_34 : decode cX5_has 34 = .ok (.if_icmp .ne 27, 3) := dk_160 0 27 (dk_at dksX5_has_1 11 rfl rfl)
theorem dX5_has_37 : decode cX5_has 37 = .ok (.aload_n 0, 1) := dk_42 (dk_at dksX5_has_1 14 rfl rfl)
theorem dX5_has_38 : decode cX5_has 38 = .ok (.getfield 18, 3) := dk_180 0 18 (dk_at dksX5_has_1 15 rfl rfl)
theorem dX5_has_41 : decode cX5_has 41 = .ok (.iload 4, 2) := dk_21 4 (dk_at dksX5_has_1 18 rfl rfl)
theorem dX5_has_43 : decode cX5_has 43 = .ok (.iaload, 1) := dk_46 (dk_at dksX5_has_1 20 rfl rfl)
theorem dX5_has_44 : decode cX5_has 44 = .ok (.iload_n 2, 1) := dk_28 (dk_at dksX5_has_1 21 rfl rfl)
theorem dX5_has_45 : decode cX5_has 45 = .ok (.if_icmp .ne 16, 3) := dk_160 0 16 (dk_at dksX5_has_2 0 rfl rfl)
theorem dX5_has_48 : decode cX5_has 48 = .ok (.aload_n 0, 1) := dk_42 (dk_at dksX5_has_2 3 rfl rfl)
theorem dX5_has_49 : decode cX5_has 49 = .ok (.getfield 21, 3) := dk_180 0 21 (dk_at dksX5_has_2 4 rfl rfl)
theorem dX5_has_52 : decode cX5_has 52 = .ok (.iload 4, 2) := dk_21 4 (dk_at dksX5_has_2 7 rfl rfl)
theorem dX5_has_54 : decode cX5_has 54 = .ok (.iaload, 1) := dk_46 (dk_at dksX5_has_2 9 rfl rfl)
theorem dX5_has_55 : decode cX5_has 55 = .ok (.iload_n 3, 1) := dk_29 (dk_at dksX5_has_2 10 rfl rfl)
theorem dX5_has_56 : decode cX5_has 56 = .ok (.if_icmp .ne 5, 3) := dk_160 0 5 (dk_at dksX5_has_2 11 rfl rfl)
theorem dX5_has_59 : decode cX5_has 59 = .ok (.iconst 1, 1) := dk_4 (dk_at dksX5_has_2 14 rfl rfl)
theorem dX5_has_60 : decode cX5_has 60 = .ok (.ireturn, 1) := dk_172 (dk_at dksX5_has_2 15 rfl rfl)
theorem dX5_has_61 : decode cX5_has 61 = .ok (.iinc 4 1, 3) := dk_132 4 1 (dk_at dksX5_has_2 16 rfl rfl)
theorem dX5_has_64 : decode cX5_has 64 = .ok (.goto (-61), 3) := dk_167 255 195 (dk_at dksX5_has_2 19 rfl rfl)
theorem dX5_has_67 : decode cX5_has 67 = .ok (.iconst 0, 1) := dk_3 (dk_at dksX5_has_2 22 rfl rfl)
theorem dX5_has_68 : decode cX5_has 68 = .ok (.ireturn, 1) := dk_172 (dk_at dksX5_has_2 23 rfl rfl)
abbrev cX5_like : ByteArray := prog_4_method_2_code
def yX5_like : MethodName := ⟨RX5, "like", "(LWheelTables$Engine;)V"⟩
def dkwX5_like_2 : List UInt8 := [42, 3, 181, 0, 59, 177]
abbrev dktX5_like_2 : List UInt8 := dkwX5_like_2 ++ []
def dkwX5_like_1 : List UInt8 := [28, 50, 180, 0, 53, 3, 42, 180, 0, 32, 184, 0, 38, 132, 2, 1, 167, 255, 218, 42, 3, 181, 0, 56]
abbrev dktX5_like_1 : List UInt8 := dkwX5_like_1 ++ dktX5_like_2
def dkwX5_like_0 : List UInt8 := [3, 61, 28, 42, 180, 0, 28, 162, 0, 36, 43, 180, 0, 46, 28, 50, 180, 0, 53, 3, 42, 180, 0, 46]
abbrev dktX5_like_0 : List UInt8 := dkwX5_like_0 ++ dktX5_like_1
theorem dksX5_like_0 : cX5_like.data.toList.drop 0 = dktX5_like_0 := by decide +kernel
theorem dksX5_like_1 : cX5_like.data.toList.drop 24 = dktX5_like_1 := dk_seg dksX5_like_0 24 rfl rfl
theorem dksX5_like_2 : cX5_like.data.toList.drop 48 = dktX5_like_2 := dk_seg dksX5_like_1 24 rfl rfl
theorem dX5_like_0 : decode cX5_like 0 = .ok (.iconst 0, 1) := dk_3 (dk_at dksX5_like_0 0 rfl rfl)
theorem dX5_like_1 : decode cX5_like 1 = .ok (.istore_n 2, 1) := dk_61 (dk_at dksX5_like_0 1 rfl rfl)
theorem dX5_like_2 : decode cX5_like 2 = .ok (.iload_n 2, 1) := dk_28 (dk_at dksX5_like_0 2 rfl rfl)
theorem dX5_like_3 : decode cX5_like 3 = .ok (.aload_n 0, 1) := dk_42 (dk_at dksX5_like_0 3 rfl rfl)
theorem dX5_like_4 : decode cX5_like 4 = .ok (.getfield 28, 3) := dk_180 0 28 (dk_at dksX5_like_0 4 rfl rfl)
theorem dX5_like_7 : decode cX5_like 7 = .ok (.if_icmp .ge 36, 3) := dk_162 0 36 (dk_at dksX5_like_0 7 rfl rfl)
theorem dX5_like_10 : decode cX5_like 10 = .ok (.aload_n 1, 1) := dk_43 (dk_at dksX5_like_0 10 rfl rfl)
theorem dX5_like_11 : decode cX5_like 11 = .ok (.getfield 46, 3) := dk_180 0 46 (dk_at dksX5_like_0 11 rfl rfl)
theorem dX5_like_14 : decode cX5_like 14 = .ok (.iload_n 2, 1) := dk_28 (dk_at dksX5_like_0 14 rfl rfl)
theorem dX5_like_15 : decode cX5_like 15 = .ok (.aaload, 1) := dk_50 (dk_at dksX5_like_0 15 rfl rfl)
theorem dX5_like_16 : decode cX5_like 16 = .ok (.getfield 53, 3) := dk_180 0 53 (dk_at dksX5_like_0 16 rfl rfl)
theorem dX5_like_19 : decode cX5_like 19 = .ok (.iconst 0, 1) := dk_3 (dk_at dksX5_like_0 19 rfl rfl)
theorem dX5_like_20 : decode cX5_like 20 = .ok (.aload_n 0, 1) := dk_42 (dk_at dksX5_like_0 20 rfl rfl)
theorem dX5_like_21 : decode cX5_like 21 = .ok (.getfield 46, 3) := dk_180 0 46 (dk_at dksX5_like_0 21 rfl rfl)
theorem dX5_like_24 : decode cX5_like 24 = .ok (.iload_n 2, 1) := dk_28 (dk_at dksX5_like_1 0 rfl rfl)
theorem dX5_like_25 : decode cX5_like 25 = .ok (.aaload, 1) := dk_50 (dk_at dksX5_like_1 1 rfl rfl)
theorem dX5_like_26 : decode cX5_like 26 = .ok (.getfield 53, 3) := dk_180 0 53 (dk_at dksX5_like_1 2 rfl rfl)
theorem dX5_like_29 : decode cX5_like 29 = .ok (.iconst 0, 1) := dk_3 (dk_at dksX5_like_1 5 rfl rfl)
theorem dX5_like_30 : decode cX5_like 30 = .ok (.aload_n 0, 1) := dk_42 (dk_at dksX5_like_1 6 rfl rfl)
theorem dX5_like_31 : decode cX5_like 31 = .ok (.getfield 32, 3) := dk_180 0 32 (dk_at dksX5_like_1 7 rfl rfl)
theorem dX5_like_34 : decode cX5_like 34 = .ok (.invokestatic 38, 3) := dk_184 0 38 (dk_at dksX5_like_1 10 rfl rfl)
theorem dX5_like_37 : decode cX5_like 37 = .ok (.iinc 2 1, 3) := dk_132 2 1 (dk_at dksX5_like_1 13 rfl rfl)
theorem dX5_like_40 : decode cX5_like 40 = .ok (.goto (-38), 3) := dk_167 255 218 (dk_at dksX5_like_1 16 rfl rfl)
theorem dX5_like_43 : decode cX5_like 43 = .ok (.aload_n 0, 1) := dk_42 (dk_at dksX5_like_1 19 rfl rfl)
theorem dX5_like_44 : decode cX5_like 44 = .ok (.iconst 0, 1) := dk_3 (dk_at dksX5_like_1 20 rfl rfl)
theorem dX5_like_45 : decode cX5_like 45 = .ok (.putfield 56, 3) := dk_181 0 56 (dk_at dksX5_like_1 21 rfl rfl)
theorem dX5_like_48 : decode cX5_like 48 = .ok (.aload_n 0, 1) := dk_42 (dk_at dksX5_like_2 0 rfl rfl)
theorem dX5_like_49 : decode cX5_like 49 = .ok (.iconst 0, 1) := dk_3 (dk_at dksX5_like_2 1 rfl rfl)
theorem dX5_like_50 : decode cX5_like 50 = .ok (.putfield 59, 3) := dk_181 0 59 (dk_at dksX5_like_2 2 rfl rfl)
theorem dX5_like_53 : decode cX5_like 53 = .ok (.return_, 1) := dk_177 (dk_at dksX5_like_2 5 rfl rfl)
theorem q109 : (Jvm.Cond.initialized "WheelTables$Engine") ∈ lw_all := lw_g (lw_at lw_m1 15 rfl) rfl
theorem q577 : (Jvm.Cond.instantiable "WheelTables$Engine" (11 : Nat)) ∈ lw_all := lw_g (lw_at lw_m3 3 rfl) rfl
theorem q579 : (Jvm.Cond.instanceMethod ({ cls := "WheelTables$Engine", name := "<init>", desc := "(II[I)V" } : Jvm.MethodName)) ∈ lw_all := lw_g (lw_at lw_m3 5 rfl) rfl
theorem q580 : (Jvm.Cond.code ({ cls := "WheelTables$Engine", name := "<init>", desc := "(II[I)V" } : Jvm.MethodName) prog_4_method_1_code (5 : Nat) (Option.none : Option Jvm.ClassFile.FieldType)) ∈ lw_all := lw_g (lw_at lw_m3 6 rfl) rfl
theorem q581 : (Jvm.Cond.methodLink "WheelTables$Engine" (3 : Nat) ({ cls := "java/lang/Object", name := "<init>", desc := "()V" } : Jvm.MethodName)) ∈ lw_all := lw_g (lw_at lw_m3 7 rfl) rfl
theorem q582 : (Jvm.Cond.methodLink "WheelTables$Engine" (38 : Nat) ({ cls := "java/lang/System", name := "arraycopy", desc := "(Ljava/lang/Object;ILjava/lang/Object;II)V" } : Jvm.MethodName)) ∈ lw_all := lw_g (lw_at lw_m3 8 rfl) rfl
theorem q583 : (Jvm.Cond.classLink "WheelTables$Engine" (44 : Nat) "WheelTables$Axis") ∈ lw_all := lw_g (lw_at lw_m3 9 rfl) rfl
theorem q586 : (Jvm.Cond.methodLink "WheelTables$Engine" (50 : Nat) ({ cls := "WheelTables$Axis", name := "<init>", desc := "(I)V" } : Jvm.MethodName)) ∈ lw_all := lw_g (lw_at lw_m3 12 rfl) rfl
theorem q591 : (Jvm.Cond.fieldLinkNest "WheelTables$Engine" (53 : Nat) "WheelTables$Axis" "figure" "[I" "WheelTables") ∈ lw_tbl := lw_at lw_m3 17 rfl
theorem q597 : (Jvm.Cond.fieldLink "WheelTables$Engine" (28 : Nat) "WheelTables$Engine" "axes" "I") ∈ lw_all := lw_g (lw_at lw_m3 23 rfl) rfl
theorem q599 : (Jvm.Cond.fieldLink "WheelTables$Engine" (32 : Nat) "WheelTables$Engine" "wheels" "I") ∈ lw_all := lw_g (lw_at lw_m3 25 rfl) rfl
theorem q601 : (Jvm.Cond.fieldLink "WheelTables$Engine" (35 : Nat) "WheelTables$Engine" "radix" "[I") ∈ lw_all := lw_g (lw_at lw_m3 27 rfl) rfl
theorem q603 : (Jvm.Cond.fieldLink "WheelTables$Engine" (46 : Nat) "WheelTables$Engine" "axis" "[LWheelTables$Axis;") ∈ lw_all := lw_g (lw_at lw_m3 29 rfl) rfl
theorem q605 : (Jvm.Cond.fieldLink "WheelTables$Engine" (56 : Nat) "WheelTables$Engine" "turn" "I") ∈ lw_all := lw_g (lw_at lw_m3 31 rfl) rfl
theorem q607 : (Jvm.Cond.fieldLink "WheelTables$Engine" (59 : Nat) "WheelTables$Engine" "mishaps" "I") ∈ lw_all := lw_g (lw_at lw_m3 33 rfl) rfl
theorem q609 : (Jvm.Cond.fieldLink "WheelTables$Engine" (9 : Nat) "WheelTables$Engine" "mTurn" "[I") ∈ lw_all := lw_g (lw_at lw_m3 35 rfl) rfl
theorem q610 : (Jvm.Cond.fieldLink "WheelTables$Engine" (15 : Nat) "WheelTables$Engine" "mAxis" "[I") ∈ lw_all := lw_g (lw_at lw_m3 36 rfl) rfl
theorem q611 : (Jvm.Cond.fieldLink "WheelTables$Engine" (18 : Nat) "WheelTables$Engine" "mWheel" "[I") ∈ lw_all := lw_g (lw_at lw_m3 37 rfl) rfl
theorem q612 : (Jvm.Cond.fieldLink "WheelTables$Engine" (21 : Nat) "WheelTables$Engine" "mKind" "[I") ∈ lw_all := lw_g (lw_at lw_m3 38 rfl) rfl
theorem q613 : (Jvm.Cond.fieldLink "WheelTables$Engine" (24 : Nat) "WheelTables$Engine" "isWarned" "[Z") ∈ lw_all := lw_g (lw_at lw_m3 39 rfl) rfl
theorem q614 : (Jvm.Cond.laysFinal "WheelTables$Engine" "WheelTables$Engine" "axes" "I") ∈ lw_all := lw_g (lw_at lw_m3 40 rfl) rfl
theorem q615 : (Jvm.Cond.soleField "WheelTables$Engine" "axes") ∈ lw_all := lw_g (lw_at lw_m3 41 rfl) rfl
theorem q616 : (Jvm.Cond.laysFinal "WheelTables$Engine" "WheelTables$Engine" "wheels" "I") ∈ lw_all := lw_g (lw_at lw_m3 42 rfl) rfl
theorem q617 : (Jvm.Cond.soleField "WheelTables$Engine" "wheels") ∈ lw_all := lw_g (lw_at lw_m3 43 rfl) rfl
theorem q618 : (Jvm.Cond.laysFinal "WheelTables$Engine" "WheelTables$Engine" "radix" "[I") ∈ lw_all := lw_g (lw_at lw_m3 44 rfl) rfl
theorem q619 : (Jvm.Cond.soleField "WheelTables$Engine" "radix") ∈ lw_all := lw_g (lw_at lw_m3 45 rfl) rfl
theorem q620 : (Jvm.Cond.laysFinal "WheelTables$Engine" "WheelTables$Engine" "axis" "[LWheelTables$Axis;") ∈ lw_all := lw_g (lw_at lw_m3 46 rfl) rfl
theorem q621 : (Jvm.Cond.soleField "WheelTables$Engine" "axis") ∈ lw_all := lw_g (lw_at lw_m3 47 rfl) rfl
theorem q622 : (Jvm.Cond.lays "WheelTables$Engine" "WheelTables$Engine" "turn" "I") ∈ lw_all := lw_g (lw_at lw_m3 48 rfl) rfl
theorem q623 : (Jvm.Cond.soleField "WheelTables$Engine" "turn") ∈ lw_all := lw_g (lw_at lw_m3 49 rfl) rfl
theorem q624 : (Jvm.Cond.lays "WheelTables$Engine" "WheelTables$Engine" "mishaps" "I") ∈ lw_all := lw_g (lw_at lw_m3 50 rfl) rfl
theorem q625 : (Jvm.Cond.soleField "WheelTables$Engine" "mishaps") ∈ lw_all := lw_g (lw_at lw_m3 51 rfl) rfl
theorem q626 : (Jvm.Cond.laysFinal "WheelTables$Engine" "WheelTables$Engine" "mTurn" "[I") ∈ lw_all := lw_g (lw_at lw_m3 52 rfl) rfl
theorem q627 : (Jvm.Cond.soleField "WheelTables$Engine" "mTurn") ∈ lw_all := lw_g (lw_at lw_m3 53 rfl) rfl
theorem q628 : (Jvm.Cond.laysFinal "WheelTables$Engine" "WheelTables$Engine" "mAxis" "[I") ∈ lw_all := lw_g (lw_at lw_m3 54 rfl) rfl
theorem q629 : (Jvm.Cond.soleField "WheelTables$Engine" "mAxis") ∈ lw_all := lw_g (lw_at lw_m3 55 rfl) rfl
theorem q630 : (Jvm.Cond.laysFinal "WheelTables$Engine" "WheelTables$Engine" "mWheel" "[I") ∈ lw_all := lw_g (lw_at lw_m3 56 rfl) rfl
theorem q631 : (Jvm.Cond.soleField "WheelTables$Engine" "mWheel") ∈ lw_all := lw_g (lw_at lw_m3 57 rfl) rfl
theorem q632 : (Jvm.Cond.laysFinal "WheelTables$Engine" "WheelTables$Engine" "mKind" "[I") ∈ lw_all := lw_g (lw_at lw_m3 58 rfl) rfl
theorem q633 : (Jvm.Cond.soleField "WheelTables$Engine" "mKind") ∈ lw_all := lw_g (lw_at lw_m3 59 rfl) rfl
theorem q634 : (Jvm.Cond.laysFinal "WheelTables$Engine" "WheelTables$Engine" "isWarned" "[Z") ∈ lw_all := lw_g (lw_at lw_m3 60 rfl) rfl
theorem q635 : (Jvm.Cond.soleField "WheelTables$Engine" "isWarned") ∈ lw_all := lw_g (lw_at lw_m3 61 rfl) rfl
theorem q636 : (Jvm.Cond.superclass "WheelTables$Engine" "java/lang/Object") ∈ lw_all := lw_g (lw_at lw_m3 62 rfl) rfl
theorem q662 : (Jvm.Cond.instanceMethod ({ cls := "WheelTables$Engine", name := "number", desc := "(I)J" } : Jvm.MethodName)) ∈ lw_all := lw_g (lw_at lw_m3 88 rfl) rfl
theorem q663 : (Jvm.Cond.selects "WheelTables$Engine" ({ cls := "WheelTables$Engine", name := "number", desc := "(I)J" } : Jvm.MethodName) ({ cls := "WheelTables$Engine", name := "number", desc := "(I)J" } : Jvm.MethodName)) ∈ lw_all := lw_g (lw_at lw_m3 89 rfl) rfl
theorem q664 : (Jvm.Cond.code ({ cls := "WheelTables$Engine", name := "number", desc := "(I)J" } : Jvm.MethodName) prog_4_method_7_code (5 : Nat) (Option.some Jvm.ClassFile.FieldType.long)) ∈ lw_all := lw_g (lw_at lw_m3 90 rfl) rfl
theorem q689 : (Jvm.Cond.instanceMethod ({ cls := "WheelTables$Engine", name := "shows", desc := "(IJ)V" } : Jvm.MethodName)) ∈ lw_all := lw_g (lw_at lw_m3 115 rfl) rfl
theorem q690 : (Jvm.Cond.selects "WheelTables$Engine" ({ cls := "WheelTables$Engine", name := "shows", desc := "(IJ)V" } : Jvm.MethodName) ({ cls := "WheelTables$Engine", name := "shows", desc := "(IJ)V" } : Jvm.MethodName)) ∈ lw_all := lw_g (lw_at lw_m3 116 rfl) rfl
theorem q691 : (Jvm.Cond.code ({ cls := "WheelTables$Engine", name := "shows", desc := "(IJ)V" } : Jvm.MethodName) prog_4_method_8_code (7 : Nat) (Option.none : Option Jvm.ClassFile.FieldType)) ∈ lw_all := lw_g (lw_at lw_m3 117 rfl) rfl
theorem q692 : (Jvm.Cond.methodLink "WheelTables$Engine" (70 : Nat) ({ cls := "java/lang/Math", name := "floorMod", desc := "(JJ)J" } : Jvm.MethodName)) ∈ lw_all := lw_g (lw_at lw_m3 118 rfl) rfl
theorem q695 : (Jvm.Cond.methodLink "WheelTables$Engine" (76 : Nat) ({ cls := "java/lang/Math", name := "floorDiv", desc := "(JJ)J" } : Jvm.MethodName)) ∈ lw_all := lw_g (lw_at lw_m3 121 rfl) rfl
theorem q703 : (Jvm.Cond.instanceMethod ({ cls := "WheelTables$Engine", name := "mishap", desc := "(IIII)V" } : Jvm.MethodName)) ∈ lw_all := lw_g (lw_at lw_m3 129 rfl) rfl
theorem q704 : (Jvm.Cond.selects "WheelTables$Engine" ({ cls := "WheelTables$Engine", name := "mishap", desc := "(IIII)V" } : Jvm.MethodName) ({ cls := "WheelTables$Engine", name := "mishap", desc := "(IIII)V" } : Jvm.MethodName)) ∈ lw_all := lw_g (lw_at lw_m3 130 rfl) rfl
theorem q705 : (Jvm.Cond.code ({ cls := "WheelTables$Engine", name := "mishap", desc := "(IIII)V" } : Jvm.MethodName) prog_4_method_3_code (5 : Nat) (Option.none : Option Jvm.ClassFile.FieldType)) ∈ lw_all := lw_g (lw_at lw_m3 131 rfl) rfl
theorem q715 : (Jvm.Cond.instanceMethod ({ cls := "WheelTables$Engine", name := "turns", desc := "()V" } : Jvm.MethodName)) ∈ lw_all := lw_g (lw_at lw_m3 141 rfl) rfl
theorem q716 : (Jvm.Cond.selects "WheelTables$Engine" ({ cls := "WheelTables$Engine", name := "turns", desc := "()V" } : Jvm.MethodName) ({ cls := "WheelTables$Engine", name := "turns", desc := "()V" } : Jvm.MethodName)) ∈ lw_all := lw_g (lw_at lw_m3 142 rfl) rfl
theorem q717 : (Jvm.Cond.code ({ cls := "WheelTables$Engine", name := "turns", desc := "()V" } : Jvm.MethodName) prog_4_method_6_code (3 : Nat) (Option.none : Option Jvm.ClassFile.FieldType)) ∈ lw_all := lw_g (lw_at lw_m3 143 rfl) rfl
theorem q718 : (Jvm.Cond.methodLink "WheelTables$Engine" (66 : Nat) ({ cls := "WheelTables$Engine", name := "adds", desc := "(II)V" } : Jvm.MethodName)) ∈ lw_all := lw_g (lw_at lw_m3 144 rfl) rfl
theorem q719 : (Jvm.Cond.privateMethod ({ cls := "WheelTables$Engine", name := "adds", desc := "(II)V" } : Jvm.MethodName)) ∈ lw_tbl := lw_at lw_m3 145 rfl
theorem q720 : (Jvm.Cond.instanceMethod ({ cls := "WheelTables$Engine", name := "adds", desc := "(II)V" } : Jvm.MethodName)) ∈ lw_all := lw_g (lw_at lw_m3 146 rfl) rfl
theorem q721 : (Jvm.Cond.code ({ cls := "WheelTables$Engine", name := "adds", desc := "(II)V" } : Jvm.MethodName) prog_4_method_5_code (6 : Nat) (Option.none : Option Jvm.ClassFile.FieldType)) ∈ lw_all := lw_g (lw_at lw_m3 147 rfl) rfl
theorem q722 : (Jvm.Cond.methodLink "WheelTables$Engine" (62 : Nat) ({ cls := "WheelTables$Engine", name := "has", desc := "(III)Z" } : Jvm.MethodName)) ∈ lw_all := lw_g (lw_at lw_m3 148 rfl) rfl
theorem q723 : (Jvm.Cond.privateMethod ({ cls := "WheelTables$Engine", name := "has", desc := "(III)Z" } : Jvm.MethodName)) ∈ lw_tbl := lw_at lw_m3 149 rfl
theorem q724 : (Jvm.Cond.instanceMethod ({ cls := "WheelTables$Engine", name := "has", desc := "(III)Z" } : Jvm.MethodName)) ∈ lw_all := lw_g (lw_at lw_m3 150 rfl) rfl
theorem q725 : (Jvm.Cond.code ({ cls := "WheelTables$Engine", name := "has", desc := "(III)Z" } : Jvm.MethodName) prog_4_method_4_code (5 : Nat) (Option.some Jvm.ClassFile.FieldType.boolean)) ∈ lw_all := lw_g (lw_at lw_m3 151 rfl) rfl
theorem q739 : (Jvm.Cond.instanceMethod ({ cls := "WheelTables$Engine", name := "like", desc := "(LWheelTables$Engine;)V" } : Jvm.MethodName)) ∈ lw_all := lw_g (lw_at lw_m3 165 rfl) rfl
theorem q740 : (Jvm.Cond.selects "WheelTables$Engine" ({ cls := "WheelTables$Engine", name := "like", desc := "(LWheelTables$Engine;)V" } : Jvm.MethodName) ({ cls := "WheelTables$Engine", name := "like", desc := "(LWheelTables$Engine;)V" } : Jvm.MethodName)) ∈ lw_all := lw_g (lw_at lw_m3 166 rfl) rfl
theorem q741 : (Jvm.Cond.code ({ cls := "WheelTables$Engine", name := "like", desc := "(LWheelTables$Engine;)V" } : Jvm.MethodName) prog_4_method_2_code (3 : Nat) (Option.none : Option Jvm.ClassFile.FieldType)) ∈ lw_all := lw_g (lw_at lw_m3 167 rfl) rfl
theorem in_X5 : ∀ w ∈ wsX50, w ∈ lw_all := lw_in wsX50 [614, 616, 618, 620, 622, 624, 626, 628, 630, 632, 634] (by decide +kernel) (by decide +kernel)
/-! WheelTables$Axis -/
set_option maxRecDepth 100000
def RX6 : String := "WheelTables$Axis"
def TX6 : u_T := fun k => match k with
  | _ => ("WheelTables$Axis", "figure", "[I", true)
def tyX6 : Nat → FieldType := fun k => match k with
  | _ => .array .int
abbrev wsX60 : List Cond := u_ws RX6 TX6 1
theorem nmX6 : ∀ a, a < 1 → ∀ b, b < 1 → a ≠ b → (TX6 a).2.1 ≠ (TX6 b).2.1 := by decide +kernel
theorem tyX6_ok : ∀ k, k < 1 → parseFieldDescriptor (TX6 k).2.2.1 = some (tyX6 k) := by decide +kernel
abbrev cX6_init : ByteArray := prog_2_method_1_code
def yX6_init : MethodName := ⟨RX6, "<init>", "(I)V"⟩
def dkwX6_init_0 : List UInt8 := [42, 183, 0, 1, 42, 27, 188, 10, 181, 0, 7, 177]
abbrev dktX6_init_0 : List UInt8 := dkwX6_init_0 ++ []
theorem dksX6_init_0 : cX6_init.data.toList.drop 0 = dktX6_init_0 := by decide +kernel
theorem dX6_init_0 : decode cX6_init 0 = .ok (.aload_n 0, 1) := dk_42 (dk_at dksX6_init_0 0 rfl rfl)
theorem dX6_init_1 : decode cX6_init 1 = .ok (.invokespecial 1, 3) := dk_183 0 1 (dk_at dksX6_init_0 1 rfl rfl)
theorem dX6_init_4 : decode cX6_init 4 = .ok (.aload_n 0, 1) := dk_42 (dk_at dksX6_init_0 4 rfl rfl)
theorem dX6_init_5 : decode cX6_init 5 = .ok (.iload_n 1, 1) := dk_27 (dk_at dksX6_init_0 5 rfl rfl)
theorem dX6_init_6 : decode cX6_init 6 = .ok (.newarray .int, 2) := dk_188_10 (dk_at dksX6_init_0 6 rfl rfl)
theorem dX6_init_8 : decode cX6_init 8 = .ok (.putfield 7, 3) := dk_181 0 7 (dk_at dksX6_init_0 8 rfl rfl)
theorem dX6_init_11 : decode cX6_init 11 = .ok (.return_, 1) := dk_177 (dk_at dksX6_init_0 11 rfl rfl)
theorem q110 : (Jvm.Cond.initialized "WheelTables$Axis") ∈ lw_all := lw_g (lw_at lw_m1 16 rfl) rfl
theorem q585 : (Jvm.Cond.instantiable "WheelTables$Axis" (1 : Nat)) ∈ lw_all := lw_g (lw_at lw_m3 11 rfl) rfl
theorem q587 : (Jvm.Cond.instanceMethod ({ cls := "WheelTables$Axis", name := "<init>", desc := "(I)V" } : Jvm.MethodName)) ∈ lw_all := lw_g (lw_at lw_m3 13 rfl) rfl
theorem q588 : (Jvm.Cond.code ({ cls := "WheelTables$Axis", name := "<init>", desc := "(I)V" } : Jvm.MethodName) prog_2_method_1_code (2 : Nat) (Option.none : Option Jvm.ClassFile.FieldType)) ∈ lw_all := lw_g (lw_at lw_m3 14 rfl) rfl
theorem q589 : (Jvm.Cond.methodLink "WheelTables$Axis" (1 : Nat) ({ cls := "java/lang/Object", name := "<init>", desc := "()V" } : Jvm.MethodName)) ∈ lw_all := lw_g (lw_at lw_m3 15 rfl) rfl
theorem q590 : (Jvm.Cond.fieldLink "WheelTables$Axis" (7 : Nat) "WheelTables$Axis" "figure" "[I") ∈ lw_all := lw_g (lw_at lw_m3 16 rfl) rfl
theorem q593 : (Jvm.Cond.laysFinal "WheelTables$Axis" "WheelTables$Axis" "figure" "[I") ∈ lw_all := lw_g (lw_at lw_m3 19 rfl) rfl
theorem q594 : (Jvm.Cond.soleField "WheelTables$Axis" "figure") ∈ lw_all := lw_g (lw_at lw_m3 20 rfl) rfl
theorem q595 : (Jvm.Cond.superclass "WheelTables$Axis" "java/lang/Object") ∈ lw_all := lw_g (lw_at lw_m3 21 rfl) rfl
theorem in_X6 : ∀ w ∈ wsX60, w ∈ lw_all := lw_in wsX60 [593] (by decide +kernel) (by decide +kernel)
/-! WheelTables$Card -/
set_option maxRecDepth 100000
def RX7 : String := "WheelTables$Card"
def TX7 : u_T := fun k => match k with
  | 0 => ("WheelTables$Card", "kind", "I", true)
  | 1 => ("WheelTables$Card", "at", "[I", true)
  | 2 => ("WheelTables$Card", "number", "J", false)
  | 3 => ("WheelTables$Card", "when", "I", false)
  | _ => ("WheelTables$Card", "where", "I", false)
def tyX7 : Nat → FieldType := fun k => match k with
  | 0 => .int
  | 1 => .array .int
  | 2 => .long
  | 3 => .int
  | _ => .int
abbrev wsX70 : List Cond := u_ws RX7 TX7 5
theorem nmX7 : ∀ a, a < 5 → ∀ b, b < 5 → a ≠ b → (TX7 a).2.1 ≠ (TX7 b).2.1 := by decide +kernel
theorem tyX7_ok : ∀ k, k < 5 → parseFieldDescriptor (TX7 k).2.2.1 = some (tyX7 k) := by decide +kernel
abbrev cX7_init : ByteArray := prog_3_method_1_code
def yX7_init : MethodName := ⟨RX7, "<init>", "(I)V"⟩
def dkwX7_init_0 : List UInt8 := [42, 183, 0, 1, 42, 7, 188, 10, 181, 0, 7, 42, 27, 181, 0, 13, 177]
abbrev dktX7_init_0 : List UInt8 := dkwX7_init_0 ++ []
theorem dksX7_init_0 : cX7_init.data.toList.drop 0 = dktX7_init_0 := by decide +kernel
theorem dX7_init_0 : decode cX7_init 0 = .ok (.aload_n 0, 1) := dk_42 (dk_at dksX7_init_0 0 rfl rfl)
theorem dX7_init_1 : decode cX7_init 1 = .ok (.invokespecial 1, 3) := dk_183 0 1 (dk_at dksX7_init_0 1 rfl rfl)
theorem dX7_init_4 : decode cX7_init 4 = .ok (.aload_n 0, 1) := dk_42 (dk_at dksX7_init_0 4 rfl rfl)
theorem dX7_init_5 : decode cX7_init 5 = .ok (.iconst 4, 1) := dk_7 (dk_at dksX7_init_0 5 rfl rfl)
theorem dX7_init_6 : decode cX7_init 6 = .ok (.newarray .int, 2) := dk_188_10 (dk_at dksX7_init_0 6 rfl rfl)
theorem dX7_init_8 : decode cX7_init 8 = .ok (.putfield 7, 3) := dk_181 0 7 (dk_at dksX7_init_0 8 rfl rfl)
theorem dX7_init_11 : decode cX7_init 11 = .ok (.aload_n 0, 1) := dk_42 (dk_at dksX7_init_0 11 rfl rfl)
theorem dX7_init_12 : decode cX7_init 12 = .ok (.iload_n 1, 1) := dk_27 (dk_at dksX7_init_0 12 rfl rfl)
theorem dX7_init_13 : decode cX7_init 13 = .ok (.putfield 13, 3) := dk_181 0 13 (dk_at dksX7_init_0 13 rfl rfl)
theorem dX7_init_16 : decode cX7_init 16 = .ok (.return_, 1) := dk_177 (dk_at dksX7_init_0 16 rfl rfl)
theorem q117 : (Jvm.Cond.initialized "WheelTables$Card") ∈ lw_all := lw_g (lw_at lw_m1 23 rfl) rfl
theorem q884 : (Jvm.Cond.instantiable "WheelTables$Card" (5 : Nat)) ∈ lw_all := lw_g (lw_at lw_m4 70 rfl) rfl
theorem q886 : (Jvm.Cond.instanceMethod ({ cls := "WheelTables$Card", name := "<init>", desc := "(I)V" } : Jvm.MethodName)) ∈ lw_all := lw_g (lw_at lw_m4 72 rfl) rfl
theorem q887 : (Jvm.Cond.code ({ cls := "WheelTables$Card", name := "<init>", desc := "(I)V" } : Jvm.MethodName) prog_3_method_1_code (2 : Nat) (Option.none : Option Jvm.ClassFile.FieldType)) ∈ lw_all := lw_g (lw_at lw_m4 73 rfl) rfl
theorem q888 : (Jvm.Cond.methodLink "WheelTables$Card" (1 : Nat) ({ cls := "java/lang/Object", name := "<init>", desc := "()V" } : Jvm.MethodName)) ∈ lw_all := lw_g (lw_at lw_m4 74 rfl) rfl
theorem q889 : (Jvm.Cond.fieldLink "WheelTables$Card" (13 : Nat) "WheelTables$Card" "kind" "I") ∈ lw_all := lw_g (lw_at lw_m4 75 rfl) rfl
theorem q892 : (Jvm.Cond.fieldLink "WheelTables$Card" (7 : Nat) "WheelTables$Card" "at" "[I") ∈ lw_all := lw_g (lw_at lw_m4 78 rfl) rfl
theorem q900 : (Jvm.Cond.laysFinal "WheelTables$Card" "WheelTables$Card" "kind" "I") ∈ lw_all := lw_g (lw_at lw_m4 86 rfl) rfl
theorem q901 : (Jvm.Cond.soleField "WheelTables$Card" "kind") ∈ lw_all := lw_g (lw_at lw_m4 87 rfl) rfl
theorem q902 : (Jvm.Cond.laysFinal "WheelTables$Card" "WheelTables$Card" "at" "[I") ∈ lw_all := lw_g (lw_at lw_m4 88 rfl) rfl
theorem q903 : (Jvm.Cond.soleField "WheelTables$Card" "at") ∈ lw_all := lw_g (lw_at lw_m4 89 rfl) rfl
theorem q904 : (Jvm.Cond.lays "WheelTables$Card" "WheelTables$Card" "number" "J") ∈ lw_all := lw_g (lw_at lw_m4 90 rfl) rfl
theorem q905 : (Jvm.Cond.soleField "WheelTables$Card" "number") ∈ lw_all := lw_g (lw_at lw_m4 91 rfl) rfl
theorem q906 : (Jvm.Cond.lays "WheelTables$Card" "WheelTables$Card" "when" "I") ∈ lw_all := lw_g (lw_at lw_m4 92 rfl) rfl
theorem q907 : (Jvm.Cond.soleField "WheelTables$Card" "when") ∈ lw_all := lw_g (lw_at lw_m4 93 rfl) rfl
theorem q908 : (Jvm.Cond.lays "WheelTables$Card" "WheelTables$Card" "where" "I") ∈ lw_all := lw_g (lw_at lw_m4 94 rfl) rfl
theorem q909 : (Jvm.Cond.soleField "WheelTables$Card" "where") ∈ lw_all := lw_g (lw_at lw_m4 95 rfl) rfl
theorem q910 : (Jvm.Cond.superclass "WheelTables$Card" "java/lang/Object") ∈ lw_all := lw_g (lw_at lw_m4 96 rfl) rfl
theorem in_X7 : ∀ w ∈ wsX70, w ∈ lw_all := lw_in wsX70 [900, 902, 904, 906, 908] (by decide +kernel) (by decide +kernel)
