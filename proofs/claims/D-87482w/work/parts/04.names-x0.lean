/-! WheelTables -/
set_option maxRecDepth 100000
def RX0 : String := "WheelTables"
def TX0 : u_T := fun k => match k with
  | 0 => ("WheelTables", "trays", "[LWheelTables$Tray;", true)
  | 1 => ("WheelTables", "engines", "[LWheelTables$Engine;", true)
  | 2 => ("WheelTables", "wrong", "LWheelTables$Wrong;", true)
  | 3 => ("WheelTables", "reader", "LWheelTables$Reader;", true)
  | 4 => ("WheelTables", "cards", "[LWheelTables$Card;", false)
  | 5 => ("WheelTables", "other", "[LWheelTables$Card;", false)
  | 6 => ("WheelTables", "engineMany", "I", false)
  | 7 => ("WheelTables", "cardMany", "I", false)
  | 8 => ("WheelTables", "status", "I", false)
  | 9 => ("WheelTables", "faultKind", "I", false)
  | 10 => ("WheelTables", "faultPlace", "I", false)
  | 11 => ("WheelTables", "row", "[J", true)
  | 12 => ("WheelTables", "why", "[I", true)
  | 13 => ("WheelTables", "hasWhy", "Z", false)
  | 14 => ("WheelTables", "lower", "J", false)
  | 15 => ("WheelTables", "pivots", "[J", true)
  | 16 => ("WheelTables", "exact", "[J", true)
  | 17 => ("WheelTables", "axes", "[J", true)
  | 18 => ("WheelTables", "store", "[J", true)
  | 19 => ("WheelTables", "prints", "[J", true)
  | 20 => ("WheelTables", "printMany", "I", false)
  | 21 => ("WheelTables", "cranks", "I", false)
  | 22 => ("WheelTables", "alarm", "I", false)
  | 23 => ("WheelTables", "alarmAt", "I", false)
  | 24 => ("WheelTables", "done", "I", false)
  | 25 => ("WheelTables", "hasRun", "Z", false)
  | 26 => ("WheelTables", "isUp", "Z", false)
  | 27 => ("WheelTables", "figures", "[I", true)
  | 28 => ("WheelTables", "signed", "[I", true)
  | 29 => ("WheelTables", "cost", "[[I", true)
  | 30 => ("WheelTables", "table", "[J", true)
  | 31 => ("WheelTables", "rights", "[[I", true)
  | 32 => ("WheelTables", "rightMany", "[I", true)
  | 33 => ("WheelTables", "rightAt", "[I", true)
  | 34 => ("WheelTables", "rightTo", "[I", true)
  | 35 => ("WheelTables", "tableMany", "I", false)
  | 36 => ("WheelTables", "order", "I", false)
  | 37 => ("WheelTables", "bound", "I", false)
  | 38 => ("WheelTables", "castRow", "[I", true)
  | 39 => ("WheelTables", "castNumber", "[I", true)
  | 40 => ("WheelTables", "printCasts", "[I", true)
  | 41 => ("WheelTables", "printLast", "[I", true)
  | 42 => ("WheelTables", "toldDay", "[I", true)
  | 43 => ("WheelTables", "toldRow", "[I", true)
  | 44 => ("WheelTables", "toldNumber", "[I", true)
  | 45 => ("WheelTables", "casts", "I", false)
  | 46 => ("WheelTables", "printings", "I", false)
  | 47 => ("WheelTables", "tolds", "I", false)
  | 48 => ("WheelTables", "today", "I", false)
  | 49 => ("WheelTables", "jobAxes", "[I", true)
  | 50 => ("WheelTables", "jobWheels", "[I", true)
  | 51 => ("WheelTables", "jobTurns", "[I", true)
  | 52 => ("WheelTables", "tried", "[I", true)
  | 53 => ("WheelTables", "parted", "[I", true)
  | 54 => ("WheelTables", "sums", "[I", true)
  | 55 => ("WheelTables", "jobs", "I", false)
  | _ => ("WheelTables", "leastSum", "I", false)
def tyX0 : Nat → FieldType := fun k => match k with
  | 0 => .array (.object "WheelTables$Tray")
  | 1 => .array (.object "WheelTables$Engine")
  | 2 => .object "WheelTables$Wrong"
  | 3 => .object "WheelTables$Reader"
  | 4 => .array (.object "WheelTables$Card")
  | 5 => .array (.object "WheelTables$Card")
  | 6 => .int
  | 7 => .int
  | 8 => .int
  | 9 => .int
  | 10 => .int
  | 11 => .array .long
  | 12 => .array .int
  | 13 => .boolean
  | 14 => .long
  | 15 => .array .long
  | 16 => .array .long
  | 17 => .array .long
  | 18 => .array .long
  | 19 => .array .long
  | 20 => .int
  | 21 => .int
  | 22 => .int
  | 23 => .int
  | 24 => .int
  | 25 => .boolean
  | 26 => .boolean
  | 27 => .array .int
  | 28 => .array .int
  | 29 => .array (.array .int)
  | 30 => .array .long
  | 31 => .array (.array .int)
  | 32 => .array .int
  | 33 => .array .int
  | 34 => .array .int
  | 35 => .int
  | 36 => .int
  | 37 => .int
  | 38 => .array .int
  | 39 => .array .int
  | 40 => .array .int
  | 41 => .array .int
  | 42 => .array .int
  | 43 => .array .int
  | 44 => .array .int
  | 45 => .int
  | 46 => .int
  | 47 => .int
  | 48 => .int
  | 49 => .array .int
  | 50 => .array .int
  | 51 => .array .int
  | 52 => .array .int
  | 53 => .array .int
  | 54 => .array .int
  | 55 => .int
  | _ => .int
abbrev wsX00 : List Cond := u_ws RX0 TX0 57
set_option maxRecDepth 100000 in
theorem nmX0 : ∀ a, a < 57 → ∀ b, b < 57 → a ≠ b → (TX0 a).2.1 ≠ (TX0 b).2.1 := by decide +kernel
set_option maxRecDepth 100000 in
theorem tyX0_ok : ∀ k, k < 57 → parseFieldDescriptor (TX0 k).2.2.1 = some (tyX0 k) := by decide +kernel
abbrev cX0_init : ByteArray := prog_1_method_1_code
def yX0_init : MethodName := ⟨RX0, "<init>", "()V"⟩
def dkwX0_init_14 : List UInt8 := [167, 255, 235, 177]
abbrev dktX0_init_14 : List UInt8 := dkwX0_init_14 ++ []
def dkwX0_init_13 : List UInt8 := [60, 27, 7, 162, 0, 22, 42, 180, 0, 11, 27, 187, 0, 9, 89, 183, 0, 144, 83, 132, 1, 1]
abbrev dktX0_init_13 : List UInt8 := dkwX0_init_13 ++ dktX0_init_14
def dkwX0_init_12 : List UInt8 := [42, 16, 7, 188, 10, 181, 0, 135, 42, 16, 7, 188, 10, 181, 0, 138, 42, 7, 188, 10, 181, 0, 141, 3]
abbrev dktX0_init_12 : List UInt8 := dkwX0_init_12 ++ dktX0_init_13
def dkwX0_init_11 : List UInt8 := [42, 16, 7, 188, 10, 181, 0, 126, 42, 16, 7, 188, 10, 181, 0, 129, 42, 16, 7, 188, 10, 181, 0, 132]
abbrev dktX0_init_11 : List UInt8 := dkwX0_init_11 ++ dktX0_init_12
def dkwX0_init_10 : List UInt8 := [42, 16, 60, 188, 10, 181, 0, 117, 42, 16, 60, 188, 10, 181, 0, 120, 42, 16, 60, 188, 10, 181, 0, 123]
abbrev dktX0_init_10 : List UInt8 := dkwX0_init_10 ++ dktX0_init_11
def dkwX0_init_9 : List UInt8 := [42, 16, 100, 188, 10, 181, 0, 108, 42, 16, 20, 188, 10, 181, 0, 111, 42, 16, 20, 188, 10, 181, 0, 114]
abbrev dktX0_init_9 : List UInt8 := dkwX0_init_9 ++ dktX0_init_10
def dkwX0_init_8 : List UInt8 := [2, 79, 89, 4, 2, 79, 181, 0, 99, 42, 5, 188, 10, 181, 0, 102, 42, 16, 100, 188, 10, 181, 0, 105]
abbrev dktX0_init_8 : List UInt8 := dkwX0_init_8 ++ dktX0_init_9
def dkwX0_init_7 : List UInt8 := [42, 5, 16, 80, 197, 0, 85, 2, 181, 0, 93, 42, 5, 188, 10, 181, 0, 96, 42, 5, 188, 10, 89, 3]
abbrev dktX0_init_7 : List UInt8 := dkwX0_init_7 ++ dktX0_init_8
def dkwX0_init_6 : List UInt8 := [188, 10, 181, 0, 82, 42, 16, 14, 5, 197, 0, 85, 2, 181, 0, 87, 42, 16, 20, 188, 11, 181, 0, 90]
abbrev dktX0_init_6 : List UInt8 := dkwX0_init_6 ++ dktX0_init_7
def dkwX0_init_5 : List UInt8 := [188, 11, 181, 0, 73, 42, 16, 40, 188, 11, 181, 0, 76, 42, 16, 14, 188, 10, 181, 0, 79, 42, 16, 14]
abbrev dktX0_init_5 : List UInt8 := dkwX0_init_5 ++ dktX0_init_6
def dkwX0_init_4 : List UInt8 := [8, 188, 11, 181, 0, 64, 42, 8, 188, 11, 181, 0, 67, 42, 8, 188, 11, 181, 0, 70, 42, 16, 20]
abbrev dktX0_init_4 : List UInt8 := dkwX0_init_4 ++ dktX0_init_5
def dkwX0_init_3 : List UInt8 := [181, 0, 50, 42, 2, 181, 0, 53, 42, 16, 16, 188, 11, 181, 0, 56, 42, 7, 188, 10, 181, 0, 60, 42]
abbrev dktX0_init_3 : List UInt8 := dkwX0_init_3 ++ dktX0_init_4
def dkwX0_init_2 : List UInt8 := [16, 40, 189, 0, 37, 181, 0, 39, 42, 16, 40, 189, 0, 37, 181, 0, 43, 42, 2, 181, 0, 46, 42, 2]
abbrev dktX0_init_2 : List UInt8 := dkwX0_init_2 ++ dktX0_init_3
def dkwX0_init_1 : List UInt8 := [89, 183, 0, 23, 181, 0, 24, 42, 187, 0, 28, 89, 42, 180, 0, 24, 183, 0, 30, 181, 0, 33, 42]
abbrev dktX0_init_1 : List UInt8 := dkwX0_init_1 ++ dktX0_init_2
def dkwX0_init_0 : List UInt8 := [42, 183, 0, 1, 42, 7, 189, 0, 9, 181, 0, 11, 42, 7, 189, 0, 15, 181, 0, 17, 42, 187, 0, 21]
abbrev dktX0_init_0 : List UInt8 := dkwX0_init_0 ++ dktX0_init_1
theorem dksX0_init_0 : cX0_init.data.toList.drop 0 = dktX0_init_0 := by decide +kernel
theorem dksX0_init_1 : cX0_init.data.toList.drop 24 = dktX0_init_1 := dk_seg dksX0_init_0 24 rfl rfl
theorem dksX0_init_2 : cX0_init.data.toList.drop 47 = dktX0_init_2 := dk_seg dksX0_init_1 23 rfl rfl
theorem dksX0_init_3 : cX0_init.data.toList.drop 71 = dktX0_init_3 := dk_seg dksX0_init_2 24 rfl rfl
theorem dksX0_init_4 : cX0_init.data.toList.drop 95 = dktX0_init_4 := dk_seg dksX0_init_3 24 rfl rfl
theorem dksX0_init_5 : cX0_init.data.toList.drop 118 = dktX0_init_5 := dk_seg dksX0_init_4 23 rfl rfl
theorem dksX0_init_6 : cX0_init.data.toList.drop 142 = dktX0_init_6 := dk_seg dksX0_init_5 24 rfl rfl
theorem dksX0_init_7 : cX0_init.data.toList.drop 166 = dktX0_init_7 := dk_seg dksX0_init_6 24 rfl rfl
theorem dksX0_init_8 : cX0_init.data.toList.drop 190 = dktX0_init_8 := dk_seg dksX0_init_7 24 rfl rfl
theorem dksX0_init_9 : cX0_init.data.toList.drop 214 = dktX0_init_9 := dk_seg dksX0_init_8 24 rfl rfl
theorem dksX0_init_10 : cX0_init.data.toList.drop 238 = dktX0_init_10 := dk_seg dksX0_init_9 24 rfl rfl
theorem dksX0_init_11 : cX0_init.data.toList.drop 262 = dktX0_init_11 := dk_seg dksX0_init_10 24 rfl rfl
theorem dksX0_init_12 : cX0_init.data.toList.drop 286 = dktX0_init_12 := dk_seg dksX0_init_11 24 rfl rfl
theorem dksX0_init_13 : cX0_init.data.toList.drop 310 = dktX0_init_13 := dk_seg dksX0_init_12 24 rfl rfl
theorem dksX0_init_14 : cX0_init.data.toList.drop 332 = dktX0_init_14 := dk_seg dksX0_init_13 22 rfl rfl
theorem dX0_init_0 : decode cX0_init 0 = .ok (.aload_n 0, 1) := dk_42 (dk_at dksX0_init_0 0 rfl rfl)
theorem dX0_init_1 : decode cX0_init 1 = .ok (.invokespecial 1, 3) := dk_183 0 1 (dk_at dksX0_init_0 1 rfl rfl)
theorem dX0_init_4 : decode cX0_init 4 = .ok (.aload_n 0, 1) := dk_42 (dk_at dksX0_init_0 4 rfl rfl)
theorem dX0_init_5 : decode cX0_init 5 = .ok (.iconst 4, 1) := dk_7 (dk_at dksX0_init_0 5 rfl rfl)
theorem dX0_init_6 : decode cX0_init 6 = .ok (.anewarray 9, 3) := dk_189 0 9 (dk_at dksX0_init_0 6 rfl rfl)
theorem dX0_init_9 : decode cX0_init 9 = .ok (.putfield 11, 3) := dk_181 0 11 (dk_at dksX0_init_0 9 rfl rfl)
theorem dX0_init_12 : decode cX0_init 12 = .ok (.aload_n 0, 1) := dk_42 (dk_at dksX0_init_0 12 rfl rfl)
theorem dX0_init_13 : decode cX0_init 13 = .ok (.iconst 4, 1) := dk_7 (dk_at dksX0_init_0 13 rfl rfl)
theorem dX0_init_14 : decode cX0_init 14 = .ok (.anewarray 15, 3) := dk_189 0 15 (dk_at dksX0_init_0 14 rfl rfl)
theorem dX0_init_17 : decode cX0_init 17 = .ok (.putfield 17, 3) := dk_181 0 17 (dk_at dksX0_init_0 17 rfl rfl)
theorem dX0_init_20 : decode cX0_init 20 = .ok (.aload_n 0, 1) := dk_42 (dk_at dksX0_init_0 20 rfl rfl)
theorem dX0_init_21 : decode cX0_init 21 = .ok (.new 21, 3) := dk_187 0 21 (dk_at dksX0_init_0 21 rfl rfl)
theorem dX0_init_24 : decode cX0_init 24 = .ok (.dup, 1) := dk_89 (dk_at dksX0_init_1 0 rfl rfl)
theorem dX0_init_25 : decode cX0_init 25 = .ok (.invokespecial 23, 3) := dk_183 0 23 (dk_at dksX0_init_1 1 rfl rfl)
theorem dX0_init_28 : decode cX0_init 28 = .ok (.putfield 24, 3) := dk_181 0 24 (dk_at dksX0_init_1 4 rfl rfl)
theorem dX0_init_31 : decode cX0_init 31 = .ok (.aload_n 0, 1) := dk_42 (dk_at dksX0_init_1 7 rfl rfl)
theorem dX0_init_32 : decode cX0_init 32 = .ok (.new 28, 3) := dk_187 0 28 (dk_at dksX0_init_1 8 rfl rfl)
theorem dX0_init_35 : decode cX0_init 35 = .ok (.dup, 1) := dk_89 (dk_at dksX0_init_1 11 rfl rfl)
theorem dX0_init_36 : decode cX0_init 36 = .ok (.aload_n 0, 1) := dk_42 (dk_at dksX0_init_1 12 rfl rfl)
theorem dX0_init_37 : decode cX0_init 37 = .ok (.getfield 24, 3) := dk_180 0 24 (dk_at dksX0_init_1 13 rfl rfl)
theorem dX0_init_40 : decode cX0_init 40 = .ok (.invokespecial 30, 3) := dk_183 0 30 (dk_at dksX0_init_1 16 rfl rfl)
theorem dX0_init_43 : decode cX0_init 43 = .ok (.putfield 33, 3) := dk_181 0 33 (dk_at dksX0_init_1 19 rfl rfl)
theorem dX0_init_46 : decode cX0_init 46 = .ok (.aload_n 0, 1) := dk_42 (dk_at dksX0_init_1 22 rfl rfl)
theorem dX0_init_47 : decode cX0_init 47 = .ok (.bipush 40, 2) := dk_16 40 (dk_at dksX0_init_2 0 rfl rfl)
theorem dX0_init_49 : decode cX0_init 49 = .ok (.anewarray 37, 3) := dk_189 0 37 (dk_at dksX0_init_2 2 rfl rfl)
theorem dX0_init_52 : decode cX0_init 52 = .ok (.putfield 39, 3) := dk_181 0 39 (dk_at dksX0_init_2 5 rfl rfl)
theorem dX0_init_55 : decode cX0_init 55 = .ok (.aload_n 0, 1) := dk_42 (dk_at dksX0_init_2 8 rfl rfl)
theorem dX0_init_56 : decode cX0_init 56 = .ok (.bipush 40, 2) := dk_16 40 (dk_at dksX0_init_2 9 rfl rfl)
theorem dX0_init_58 : decode cX0_init 58 = .ok (.anewarray 37, 3) := dk_189 0 37 (dk_at dksX0_init_2 11 rfl rfl)
theorem dX0_init_61 : decode cX0_init 61 = .ok (.putfield 43, 3) := dk_181 0 43 (dk_at dksX0_init_2 14 rfl rfl)
theorem dX0_init_64 : decode cX0_init 64 = .ok (.aload_n 0, 1) := dk_42 (dk_at dksX0_init_2 17 rfl rfl)
theorem dX0_init_65 : decode cX0_init 65 = .ok (.iconst (-1), 1) := dk_2 (dk_at dksX0_init_2 18 rfl rfl)
theorem dX0_init_66 : decode cX0_init 66 = .ok (.putfield 46, 3) := dk_181 0 46 (dk_at dksX0_init_2 19 rfl rfl)
theorem dX0_init_69 : decode cX0_init 69 = .ok (.aload_n 0, 1) := dk_42 (dk_at dksX0_init_2 22 rfl rfl)
theorem dX0_init_70 : decode cX0_init 70 = .ok (.iconst (-1), 1) := dk_2 (dk_at dksX0_init_2 23 rfl rfl)
theorem dX0_init_71 : decode cX0_init 71 = .ok (.putfield 50, 3) := dk_181 0 50 (dk_at dksX0_init_3 0 rfl rfl)
theorem dX0_init_74 : decode cX0_init 74 = .ok (.aload_n 0, 1) := dk_42 (dk_at dksX0_init_3 3 rfl rfl)
theorem dX0_init_75 : decode cX0_init 75 = .ok (.iconst (-1), 1) := dk_2 (dk_at dksX0_init_3 4 rfl rfl)
theorem dX0_init_76 : decode cX0_init 76 = .ok (.putfield 53, 3) := dk_181 0 53 (dk_at dksX0_init_3 5 rfl rfl)
theorem dX0_init_79 : decode cX0_init 79 = .ok (.aload_n 0, 1) := dk_42 (dk_at dksX0_init_3 8 rfl rfl)
theorem dX0_init_80 : decode cX0_init 80 = .ok (.bipush 16, 2) := dk_16 16 (dk_at dksX0_init_3 9 rfl rfl)
theorem dX0_init_82 : decode cX0_init 82 = .ok (.newarray .long, 2) := dk_188_11 (dk_at dksX0_init_3 11 rfl rfl)
theorem dX0_init_84 : decode cX0_init 84 = .ok (.putfield 56, 3) := dk_181 0 56 (dk_at dksX0_init_3 13 rfl rfl)
theorem dX0_init_87 : decode cX0_init 87 = .ok (.aload_n 0, 1) := dk_42 (dk_at dksX0_init_3 16 rfl rfl)
theorem dX0_init_88 : decode cX0_init 88 = .ok (.iconst 4, 1) := dk_7 (dk_at dksX0_init_3 17 rfl rfl)
theorem dX0_init_89 : decode cX0_init 89 = .ok (.newarray .int, 2) := dk_188_10 (dk_at dksX0_init_3 18 rfl rfl)
theorem dX0_init_91 : decode cX0_init 91 = .ok (.putfield 60, 3) := dk_181 0 60 (dk_at dksX0_init_3 20 rfl rfl)
theorem dX0_init_94 : decode cX0_init 94 = .ok (.aload_n 0, 1) := dk_42 (dk_at dksX0_init_3 23 rfl rfl)
theorem dX0_init_95 : decode cX0_init 95 = .ok (.iconst 5, 1) := dk_8 (dk_at dksX0_init_4 0 rfl rfl)
theorem dX0_init_96 : decode cX0_init 96 = .ok (.newarray .long, 2) := dk_188_11 (dk_at dksX0_init_4 1 rfl rfl)
theorem dX0_init_98 : decode cX0_init 98 = .ok (.putfield 64, 3) := dk_181 0 64 (dk_at dksX0_init_4 3 rfl rfl)
theorem dX0_init_101 : decode cX0_init 101 = .ok (.aload_n 0, 1) := dk_42 (dk_at dksX0_init_4 6 rfl rfl)
theorem dX0_init_102 : decode cX0_init 102 = .ok (.iconst 5, 1) := dk_8 (dk_at dksX0_init_4 7 rfl rfl)
theorem dX0_init_103 : decode cX0_init 103 = .ok (.newarray .long, 2) := dk_188_11 (dk_at dksX0_init_4 8 rfl rfl)
theorem dX0_init_105 : decode cX0_init 105 = .ok (.putfield 67, 3) := dk_181 0 67 (dk_at dksX0_init_4 10 rfl rfl)
theorem dX0_init_108 : decode cX0_init 108 = .ok (.aload_n 0, 1) := dk_42 (dk_at dksX0_init_4 13 rfl rfl)
theorem dX0_init_109 : decode cX0_init 109 = .ok (.iconst 5, 1) := dk_8 (dk_at dksX0_init_4 14 rfl rfl)
theorem dX0_init_110 : decode cX0_init 110 = .ok (.newarray .long, 2) := dk_188_11 (dk_at dksX0_init_4 15 rfl rfl)
theorem dX0_init_112 : decode cX0_init 112 = .ok (.putfield 70, 3) := dk_181 0 70 (dk_at dksX0_init_4 17 rfl rfl)
theorem dX0_init_115 : decode cX0_init 115 = .ok (.aload_n 0, 1) := dk_42 (dk_at dksX0_init_4 20 rfl rfl)
theorem dX0_init_116 : decode cX0_init 116 = .ok (.bipush 20, 2) := dk_16 20 (dk_at dksX0_init_4 21 rfl rfl)
theorem dX0_init_118 : decode cX0_init 118 = .ok (.newarray .long, 2) := dk_188_11 (dk_at dksX0_init_5 0 rfl rfl)
theorem dX0_init_120 : decode cX0_init 120 = .ok (.putfield 73, 3) := dk_181 0 73 (dk_at dksX0_init_5 2 rfl rfl)
theorem dX0_init_123 : decode cX0_init 123 = .ok (.aload_n 0, 1) := dk_42 (dk_at dksX0_init_5 5 rfl rfl)
theorem dX0_init_124 : decode cX0_init 124 = .ok (.bipush 40, 2) := dk_16 40 (dk_at dksX0_init_5 6 rfl rfl)
theorem dX0_init_126 : decode cX0_init 126 = .ok (.newarray .long, 2) := dk_188_11 (dk_at dksX0_init_5 8 rfl rfl)
theorem dX0_init_128 : decode cX0_init 128 = .ok (.putfield 76, 3) := dk_181 0 76 (dk_at dksX0_init_5 10 rfl rfl)
theorem dX0_init_131 : decode cX0_init 131 = .ok (.aload_n 0, 1) := dk_42 (dk_at dksX0_init_5 13 rfl rfl)
theorem dX0_init_132 : decode cX0_init 132 = .ok (.bipush 14, 2) := dk_16 14 (dk_at dksX0_init_5 14 rfl rfl)
theorem dX0_init_134 : decode cX0_init 134 = .ok (.newarray .int, 2) := dk_188_10 (dk_at dksX0_init_5 16 rfl rfl)
theorem dX0_init_136 : decode cX0_init 136 = .ok (.putfield 79, 3) := dk_181 0 79 (dk_at dksX0_init_5 18 rfl rfl)
theorem dX0_init_139 : decode cX0_init 139 = .ok (.aload_n 0, 1) := dk_42 (dk_at dksX0_init_5 21 rfl rfl)
theorem dX0_init_140 : decode cX0_init 140 = .ok (.bipush 14, 2) := dk_16 14 (dk_at dksX0_init_5 22 rfl rfl)
theorem dX0_init_142 : decode cX0_init 142 = .ok (.newarray .int, 2) := dk_188_10 (dk_at dksX0_init_6 0 rfl rfl)
theorem dX0_init_144 : decode cX0_init 144 = .ok (.putfield 82, 3) := dk_181 0 82 (dk_at dksX0_init_6 2 rfl rfl)
theorem dX0_init_147 : decode cX0_init 147 = .ok (.aload_n 0, 1) := dk_42 (dk_at dksX0_init_6 5 rfl rfl)
theorem dX0_init_148 : decode cX0_init 148 = .ok (.bipush 14, 2) := dk_16 14 (dk_at dksX0_init_6 6 rfl rfl)
theorem dX0_init_150 : decode cX0_init 150 = .ok (.iconst 2, 1) := dk_5 (dk_at dksX0_init_6 8 rfl rfl)
theorem dX0_init_151 : decode cX0_init 151 = .ok (.multianewarray 85 2, 4) := by decide +kernel
theorem dX0_init_155 : decode cX0_init 155 = .ok (.putfield 87, 3) := dk_181 0 87 (dk_at dksX0_init_6 13 rfl rfl)
theorem dX0_init_158 : decode cX0_init 158 = .ok (.aload_n 0, 1) := dk_42 (dk_at dksX0_init_6 16 rfl rfl)
theorem dX0_init_159 : decode cX0_init 159 = .ok (.bipush 20, 2) := dk_16 20 (dk_at dksX0_init_6 17 rfl rfl)
theorem dX0_init_161 : decode cX0_init 161 = .ok (.newarray .long, 2) := dk_188_11 (dk_at dksX0_init_6 19 rfl rfl)
theorem dX0_init_163 : decode cX0_init 163 = .ok (.putfield 90, 3) := dk_181 0 90 (dk_at dksX0_init_6 21 rfl rfl)
theorem dX0_init_166 : decode cX0_init 166 = .ok (.aload_n 0, 1) := dk_42 (dk_at dksX0_init_7 0 rfl rfl)
theorem dX0_init_167 : decode cX0_init 167 = .ok (.iconst 2, 1) := dk_5 (dk_at dksX0_init_7 1 rfl rfl)
theorem dX0_init_168 : decode cX0_init 168 = .ok (.bipush 80, 2) := dk_16 80 (dk_at dksX0_init_7 2 rfl rfl)
theorem dX0_init_170 : decode cX0_init 170 = .ok (.multianewarray 85 2, 4) := by decide +kernel
theorem dX0_init_174 : decode cX0_init 174 = .ok (.putfield 93, 3) := dk_181 0 93 (dk_at dksX0_init_7 8 rfl rfl)
theorem dX0_init_177 : decode cX0_init 177 = .ok (.aload_n 0, 1) := dk_42 (dk_at dksX0_init_7 11 rfl rfl)
theorem dX0_init_178 : decode cX0_init 178 = .ok (.iconst 2, 1) := dk_5 (dk_at dksX0_init_7 12 rfl rfl)
theorem dX0_init_179 : decode cX0_init 179 = .ok (.newarray .int, 2) := dk_188_10 (dk_at dksX0_init_7 13 rfl rfl)
theorem dX0_init_181 : decode cX0_init 181 = .ok (.putfield 96, 3) := dk_181 0 96 (dk_at dksX0_init_7 15 rfl rfl)
theorem dX0_init_184 : decode cX0_init 184 = .ok (.aload_n 0, 1) := dk_42 (dk_at dksX0_init_7 18 rfl rfl)
theorem dX0_init_185 : decode cX0_init 185 = .ok (.iconst 2, 1) := dk_5 (dk_at dksX0_init_7 19 rfl rfl)
theorem dX0_init_186 : decode cX0_init 186 = .ok (.newarray .int, 2) := dk_188_10 (dk_at dksX0_init_7 20 rfl rfl)
theorem dX0_init_188 : decode cX0_init 188 = .ok (.dup, 1) := dk_89 (dk_at dksX0_init_7 22 rfl rfl)
theorem dX0_init_189 : decode cX0_init 189 = .ok (.iconst 0, 1) := dk_3 (dk_at dksX0_init_7 23 rfl rfl)
theorem dX0_init_190 : decode cX0_init 190 = .ok (.iconst (-1), 1) := dk_2 (dk_at dksX0_init_8 0 rfl rfl)
theorem dX0_init_191 : decode cX0_init 191 = .ok (.iastore, 1) := dk_79 (dk_at dksX0_init_8 1 rfl rfl)
theorem dX0_init_192 : decode cX0_init 192 = .ok (.dup, 1) := dk_89 (dk_at dksX0_init_8 2 rfl rfl)
theorem dX0_init_193 : decode cX0_init 193 = .ok (.iconst 1, 1) := dk_4 (dk_at dksX0_init_8 3 rfl rfl)
theorem dX0_init_194 : decode cX0_init 194 = .ok (.iconst (-1), 1) := dk_2 (dk_at dksX0_init_8 4 rfl rfl)
theorem dX0_init_195 : decode cX0_init 195 = .ok (.iastore, 1) := dk_79 (dk_at dksX0_init_8 5 rfl rfl)
theorem dX0_init_196 : decode cX0_init 196 = .ok (.putfield 99, 3) := dk_181 0 99 (dk_at dksX0_init_8 6 rfl rfl)
theorem dX0_init_199 : decode cX0_init 199 = .ok (.aload_n 0, 1) := dk_42 (dk_at dksX0_init_8 9 rfl rfl)
theorem dX0_init_200 : decode cX0_init 200 = .ok (.iconst 2, 1) := dk_5 (dk_at dksX0_init_8 10 rfl rfl)
theorem dX0_init_201 : decode cX0_init 201 = .ok (.newarray .int, 2) := dk_188_10 (dk_at dksX0_init_8 11 rfl rfl)
theorem dX0_init_203 : decode cX0_init 203 = .ok (.putfield 102, 3) := dk_181 0 102 (dk_at dksX0_init_8 13 rfl rfl)
theorem dX0_init_206 : decode cX0_init 206 = .ok (.aload_n 0, 1) := dk_42 (dk_at dksX0_init_8 16 rfl rfl)
theorem dX0_init_207 : decode cX0_init 207 = .ok (.bipush 100, 2) := dk_16 100 (dk_at dksX0_init_8 17 rfl rfl)
theorem dX0_init_209 : decode cX0_init 209 = .ok (.newarray .int, 2) := dk_188_10 (dk_at dksX0_init_8 19 rfl rfl)
theorem dX0_init_211 : decode cX0_init 211 = .ok (.putfield 105, 3) := dk_181 0 105 (dk_at dksX0_init_8 21 rfl rfl)
theorem dX0_init_214 : decode cX0_init 214 = .ok (.aload_n 0, 1) := dk_42 (dk_at dksX0_init_9 0 rfl rfl)
theorem dX0_init_215 : decode cX0_init 215 = .ok (.bipush 100, 2) := dk_16 100 (dk_at dksX0_init_9 1 rfl rfl)
theorem dX0_init_217 : decode cX0_init 217 = .ok (.newarray .int, 2) := dk_188_10 (dk_at dksX0_init_9 3 rfl rfl)
theorem dX0_init_219 : decode cX0_init 219 = .ok (.putfield 108, 3) := dk_181 0 108 (dk_at dksX0_init_9 5 rfl rfl)
theorem dX0_init_222 : decode cX0_init 222 = .ok (.aload_n 0, 1) := dk_42 (dk_at dksX0_init_9 8 rfl rfl)
theorem dX0_init_223 : decode cX0_init 223 = .ok (.bipush 20, 2) := dk_16 20 (dk_at dksX0_init_9 9 rfl rfl)
theorem dX0_init_225 : decode cX0_init 225 = .ok (.newarray .int, 2) := dk_188_10 (dk_at dksX0_init_9 11 rfl rfl)
theorem dX0_init_227 : decode cX0_init 227 = .ok (.putfield 111, 3) := dk_181 0 111 (dk_at dksX0_init_9 13 rfl rfl)
theorem dX0_init_230 : decode cX0_init 230 = .ok (.aload_n 0, 1) := dk_42 (dk_at dksX0_init_9 16 rfl rfl)
theorem dX0_init_231 : decode cX0_init 231 = .ok (.bipush 20, 2) := dk_16 20 (dk_at dksX0_init_9 17 rfl rfl)
theorem dX0_init_233 : decode cX0_init 233 = .ok (.newarray .int, 2) := dk_188_10 (dk_at dksX0_init_9 19 rfl rfl)
theorem dX0_init_235 : decode cX0_init 235 = .ok (.putfield 114, 3) := dk_181 0 114 (dk_at dksX0_init_9 21 rfl rfl)
theorem dX0_init_238 : decode cX0_init 238 = .ok (.aload_n 0, 1) := dk_42 (dk_at dksX0_init_10 0 rfl rfl)
theorem dX0_init_239 : decode cX0_init 239 = .ok (.bipush 60, 2) := dk_16 60 (dk_at dksX0_init_10 1 rfl rfl)
theorem dX0_init_241 : decode cX0_init 241 = .ok (.newarray .int, 2) := dk_188_10 (dk_at dksX0_init_10 3 rfl rfl)
theorem dX0_init_243 : decode cX0_init 243 = .ok (.putfield 117, 3) := dk_181 0 117 (dk_at dksX0_init_10 5 rfl rfl)
theorem dX0_init_246 : decode cX0_init 246 = .ok (.aload_n 0, 1) := dk_42 (dk_at dksX0_init_10 8 rfl rfl)
theorem dX0_init_247 : decode cX0_init 247 = .ok (.bipush 60, 2) := dk_16 60 (dk_at dksX0_init_10 9 rfl rfl)
theorem dX0_init_249 : decode cX0_init 249 = .ok (.newarray .int, 2) := dk_188_10 (dk_at dksX0_init_10 11 rfl rfl)
theorem dX0_init_251 : decode cX0_init 251 = .ok (.putfield 120, 3) := dk_181 0 120 (dk_at dksX0_init_10 13 rfl rfl)
theorem dX0_init_254 : decode cX0_init 254 = .ok (.aload_n 0, 1) := dk_42 (dk_at dksX0_init_10 16 rfl rfl)
theorem dX0_init_255 : decode cX0_init 255 = .ok (.bipush 60, 2) := dk_16 60 (dk_at dksX0_init_10 17 rfl rfl)
theorem dX0_init_257 : decode cX0_init 257 = .ok (.newarray .int, 2) := dk_188_10 (dk_at dksX0_init_10 19 rfl rfl)
theorem dX0_init_259 : decode cX0_init 259 = .ok (.putfield 123, 3) := dk_181 0 123 (dk_at dksX0_init_10 21 rfl rfl)
theorem dX0_init_262 : decode cX0_init 262 = .ok (.aload_n 0, 1) := dk_42 (dk_at dksX0_init_11 0 rfl rfl)
theorem dX0_init_263 : decode cX0_init 263 = .ok (.bipush 7, 2) := dk_16 7 (dk_at dksX0_init_11 1 rfl rfl)
theorem dX0_init_265 : decode cX0_init 265 = .ok (.newarray .int, 2) := dk_188_10 (dk_at dksX0_init_11 3 rfl rfl)
theorem dX0_init_267 : decode cX0_init 267 = .ok (.putfield 126, 3) := dk_181 0 126 (dk_at dksX0_init_11 5 rfl rfl)
theorem dX0_init_270 : decode cX0_init 270 = .ok (.aload_n 0, 1) := dk_42 (dk_at dksX0_init_11 8 rfl rfl)
theorem dX0_init_271 : decode cX0_init 271 = .ok (.bipush 7, 2) := dk_16 7 (dk_at dksX0_init_11 9 rfl rfl)
theorem dX0_init_273 : decode cX0_init 273 = .ok (.newarray .int, 2) := dk_188_10 (dk_at dksX0_init_11 11 rfl rfl)
theorem dX0_init_275 : decode cX0_init 275 = .ok (.putfield 129, 3) := dk_181 0 129 (dk_at dksX0_init_11 13 rfl rfl)
theorem dX0_init_278 : decode cX0_init 278 = .ok (.aload_n 0, 1) := dk_42 (dk_at dksX0_init_11 16 rfl rfl)
theorem dX0_init_279 : decode cX0_init 279 = .ok (.bipush 7, 2) := dk_16 7 (dk_at dksX0_init_11 17 rfl rfl)
theorem dX0_init_281 : decode cX0_init 281 = .ok (.newarray .int, 2) := dk_188_10 (dk_at dksX0_init_11 19 rfl rfl)
theorem dX0_init_283 : decode cX0_init 283 = .ok (.putfield 132, 3) := dk_181 0 132 (dk_at dksX0_init_11 21 rfl rfl)
theorem dX0_init_286 : decode cX0_init 286 = .ok (.aload_n 0, 1) := dk_42 (dk_at dksX0_init_12 0 rfl rfl)
theorem dX0_init_287 : decode cX0_init 287 = .ok (.bipush 7, 2) := dk_16 7 (dk_at dksX0_init_12 1 rfl rfl)
theorem dX0_init_289 : decode cX0_init 289 = .ok (.newarray .int, 2) := dk_188_10 (dk_at dksX0_init_12 3 rfl rfl)
theorem dX0_init_291 : decode cX0_init 291 = .ok (.putfield 135, 3) := dk_181 0 135 (dk_at dksX0_init_12 5 rfl rfl)
theorem dX0_init_294 : decode cX0_init 294 = .ok (.aload_n 0, 1) := dk_42 (dk_at dksX0_init_12 8 rfl rfl)
theorem dX0_init_295 : decode cX0_init 295 = .ok (.bipush 7, 2) := dk_16 7 (dk_at dksX0_init_12 9 rfl rfl)
theorem dX0_init_297 : decode cX0_init 297 = .ok (.newarray .int, 2) := dk_188_10 (dk_at dksX0_init_12 11 rfl rfl)
theorem dX0_init_299 : decode cX0_init 299 = .ok (.putfield 138, 3) := dk_181 0 138 (dk_at dksX0_init_12 13 rfl rfl)
theorem dX0_init_302 : decode cX0_init 302 = .ok (.aload_n 0, 1) := dk_42 (dk_at dksX0_init_12 16 rfl rfl)
theorem dX0_init_303 : decode cX0_init 303 = .ok (.iconst 4, 1) := dk_7 (dk_at dksX0_init_12 17 rfl rfl)
theorem dX0_init_304 : decode cX0_init 304 = .ok (.newarray .int, 2) := dk_188_10 (dk_at dksX0_init_12 18 rfl rfl)
theorem dX0_init_306 : decode cX0_init 306 = .ok (.putfield 141, 3) := dk_181 0 141 (dk_at dksX0_init_12 20 rfl rfl)
theorem dX0_init_309 : decode cX0_init 309 = .ok (.iconst 0, 1) := dk_3 (dk_at dksX0_init_12 23 rfl rfl)
theorem dX0_init_310 : decode cX0_init 310 = .ok (.istore_n 1, 1) := dk_60 (dk_at dksX0_init_13 0 rfl rfl)
theorem dX0_init_311 : decode cX0_init 311 = .ok (.iload_n 1, 1) := dk_27 (dk_at dksX0_init_13 1 rfl rfl)
theorem dX0_init_312 : decode cX0_init 312 = .ok (.iconst 4, 1) := dk_7 (dk_at dksX0_init_13 2 rfl rfl)
theorem dX0_init_313 : decode cX0_init 313 = .ok (.if_icmp .ge 22, 3) := dk_162 0 22 (dk_at dksX0_init_13 3 rfl rfl)
theorem dX0_init_316 : decode cX0_init 316 = .ok (.aload_n 0, 1) := dk_42 (dk_at dksX0_init_13 6 rfl rfl)
theorem dX0_init_317 : decode cX0_init 317 = .ok (.getfield 11, 3) := dk_180 0 11 (dk_at dksX0_init_13 7 rfl rfl)
theorem dX0_init_320 : decode cX0_init 320 = .ok (.iload_n 1, 1) := dk_27 (dk_at dksX0_init_13 10 rfl rfl)
theorem dX0_init_321 : decode cX0_init 321 = .ok (.new 9, 3) := dk_187 0 9 (dk_at dksX0_init_13 11 rfl rfl)
theorem dX0_init_324 : decode cX0_init 324 = .ok (.dup, 1) := dk_89 (dk_at dksX0_init_13 14 rfl rfl)
theorem dX0_init_325 : decode cX0_init 325 = .ok (.invokespecial 144, 3) := dk_183 0 144 (dk_at dksX0_init_13 15 rfl rfl)
theorem dX0_init_328 : decode cX0_init 328 = .ok (.aastore, 1) := dk_83 (dk_at dksX0_init_13 18 rfl rfl)
theorem dX0_init_329 : decode cX0_init 329 = .ok (.iinc 1 1, 3) := dk_132 1 1 (dk_at dksX0_init_13 19 rfl rfl)
theorem dX0_init_332 : decode cX0_init 332 = .ok (.goto (-21), 3) := dk_167 255 235 (dk_at dksX0_init_14 0 rfl rfl)
theorem dX0_init_335 : decode cX0_init 335 = .ok (.return_, 1) := dk_177 (dk_at dksX0_init_14 3 rfl rfl)
abbrev cX0_status : ByteArray := prog_1_method_2_code
def yX0_status : MethodName := ⟨RX0, "status", "()I"⟩
theorem dX0_status_0 : decode cX0_status 0 = .ok (.aload_n 0, 1) := by decide +kernel
theorem dX0_status_1 : decode cX0_status 1 = .ok (.getfield 145, 3) := by decide +kernel
theorem dX0_status_4 : decode cX0_status 4 = .ok (.ireturn, 1) := by decide +kernel
abbrev cX0_tray : ByteArray := prog_1_method_7_code
def yX0_tray : MethodName := ⟨RX0, "tray", "(III)Z"⟩
def dkwX0_tray_2 : List UInt8 := [167, 0, 12, 58, 4, 42, 16, 6, 182, 0, 152, 172, 42, 3, 182, 0, 152, 172]
abbrev dktX0_tray_2 : List UInt8 := dkwX0_tray_2 ++ []
def dkwX0_tray_1 : List UInt8 := [16, 60, 164, 0, 9, 42, 8, 182, 0, 152, 172, 42, 180, 0, 11, 27, 50, 28, 29, 182, 0, 155]
abbrev dktX0_tray_1 : List UInt8 := dkwX0_tray_1 ++ dktX0_tray_2
def dkwX0_tray_0 : List UInt8 := [27, 184, 0, 148, 153, 0, 12, 28, 155, 0, 8, 28, 6, 164, 0, 9, 42, 4, 182, 0, 152, 172, 29]
abbrev dktX0_tray_0 : List UInt8 := dkwX0_tray_0 ++ dktX0_tray_1
theorem dksX0_tray_0 : cX0_tray.data.toList.drop 0 = dktX0_tray_0 := by decide +kernel
theorem dksX0_tray_1 : cX0_tray.data.toList.drop 23 = dktX0_tray_1 := dk_seg dksX0_tray_0 23 rfl rfl
theorem dksX0_tray_2 : cX0_tray.data.toList.drop 45 = dktX0_tray_2 := dk_seg dksX0_tray_1 22 rfl rfl
theorem dX0_tray_0 : decode cX0_tray 0 = .ok (.iload_n 1, 1) := dk_27 (dk_at dksX0_tray_0 0 rfl rfl)
theorem dX0_tray_1 : decode cX0_tray 1 = .ok (.invokestatic 148, 3) := dk_184 0 148 (dk_at dksX0_tray_0 1 rfl rfl)
theorem dX0_tray_4 : decode cX0_tray 4 = .ok (.ifCond .eq 12, 3) := dk_153 0 12 (dk_at dksX0_tray_0 4 rfl rfl)
theorem dX0_tray_7 : decode cX0_tray 7 = .ok (.iload_n 2, 1) := dk_28 (dk_at dksX0_tray_0 7 rfl rfl)
theorem dX0_tray_8 : decode cX0_tray 8 = .ok (.ifCond .lt 8, 3) := dk_155 0 8 (dk_at dksX0_tray_0 8 rfl rfl)
theorem dX0_tray_11 : decode cX0_tray 11 = .ok (.iload_n 2, 1) := dk_28 (dk_at dksX0_tray_0 11 rfl rfl)
theorem dX0_tray_12 : decode cX0_tray 12 = .ok (.iconst 3, 1) := dk_6 (dk_at dksX0_tray_0 12 rfl rfl)
theorem dX0_tray_13 : decode cX0_tray 13 = .ok (.if_icmp .le 9, 3) := dk_164 0 9 (dk_at dksX0_tray_0 13 rfl rfl)
theorem dX0_tray_16 : decode cX0_tray 16 = .ok (.aload_n 0, 1) := dk_42 (dk_at dksX0_tray_0 16 rfl rfl)
theorem dX0_tray_17 : decode cX0_tray 17 = .ok (.iconst 1, 1) := dk_4 (dk_at dksX0_tray_0 17 rfl rfl)
theorem dX0_tray_18 : decode cX0_tray 18 = .ok (.invokevirtual 152, 3) := dk_182 0 152 (dk_at dksX0_tray_0 18 rfl rfl)
theorem dX0_tray_21 : decode cX0_tray 21 = .ok (.ireturn, 1) := dk_172 (dk_at dksX0_tray_0 21 rfl rfl)
theorem dX0_tray_22 : decode cX0_tray 22 = .ok (.iload_n 3, 1) := dk_29 (dk_at dksX0_tray_0 22 rfl rfl)
theorem dX0_tray_23 : decode cX0_tray 23 = .ok (.bipush 60, 2) := dk_16 60 (dk_at dksX0_tray_1 0 rfl rfl)
theorem dX0_tray_25 : decode cX0_tray 25 = .ok (.if_icmp .le 9, 3) := dk_164 0 9 (dk_at dksX0_tray_1 2 rfl rfl)
theorem dX0_tray_28 : decode cX0_tray 28 = .ok (.aload_n 0, 1) := dk_42 (dk_at dksX0_tray_1 5 rfl rfl)
theorem dX0_tray_29 : decode cX0_tray 29 = .ok (.iconst 5, 1) := dk_8 (dk_at dksX0_tray_1 6 rfl rfl)
theorem dX0_tray_30 : decode cX0_tray 30 = .ok (.invokevirtual 152, 3) := dk_182 0 152 (dk_at dksX0_tray_1 7 rfl rfl)
theorem dX0_tray_33 : decode cX0_tray 33 = .ok (.ireturn, 1) := dk_172 (dk_at dksX0_tray_1 10 rfl rfl)
theorem dX0_tray_34 : decode cX0_tray 34 = .ok (.aload_n 0, 1) := dk_42 (dk_at dksX0_tray_1 11 rfl rfl)
theorem dX0_tray_35 : decode cX0_tray 35 = .ok (.getfield 11, 3) := dk_180 0 11 (dk_at dksX0_tray_1 12 rfl rfl)
theorem dX0_tray_38 : decode cX0_tray 38 = .ok (.iload_n 1, 1) := dk_27 (dk_at dksX0_tray_1 15 rfl rfl)
theorem dX0_tray_39 : decode cX0_tray 39 = .ok (.aaload, 1) := dk_50 (dk_at dksX0_tray_1 16 rfl rfl)
theorem dX0_tray_40 : decode cX0_tray 40 = .ok (.iload_n 2, 1) := dk_28 (dk_at dksX0_tray_1 17 rfl rfl)
theorem dX0_tray_41 : decode cX0_tray 41 = .ok (.iload_n 3, 1) := dk_29 (dk_at dksX0_tray_1 18 rfl rfl)
theorem dX0_tray_42 : decode cX0_tray 42 = .ok (.invokevirtual 155, 3) := dk_182 0 155 (dk_at dksX0_tray_1 19 rfl rfl)
theorem dX0_tray_45 : decode cX0_tray 45 = .ok (.goto 12, 3) := dk_167 0 12 (dk_at dksX0_tray_2 0 rfl rfl)
theorem dX0_tray_48 : decode cX0_tray 48 = .ok (.astore 4, 2) := dk_58 4 (dk_at dksX0_tray_2 3 rfl rfl)
theorem dX0_tray_50 : decode cX0_tray 50 = .ok (.aload_n 0, 1) := dk_42 (dk_at dksX0_tray_2 5 rfl rfl)
theorem dX0_tray_51 : decode cX0_tray 51 = .ok (.bipush 6, 2) := dk_16 6 (dk_at dksX0_tray_2 6 rfl rfl)
theorem dX0_tray_53 : decode cX0_tray 53 = .ok (.invokevirtual 152, 3) := dk_182 0 152 (dk_at dksX0_tray_2 8 rfl rfl)
theorem dX0_tray_56 : decode cX0_tray 56 = .ok (.ireturn, 1) := dk_172 (dk_at dksX0_tray_2 11 rfl rfl)
theorem dX0_tray_57 : decode cX0_tray 57 = .ok (.aload_n 0, 1) := dk_42 (dk_at dksX0_tray_2 12 rfl rfl)
theorem dX0_tray_58 : decode cX0_tray 58 = .ok (.iconst 0, 1) := dk_3 (dk_at dksX0_tray_2 13 rfl rfl)
theorem dX0_tray_59 : decode cX0_tray 59 = .ok (.invokevirtual 152, 3) := dk_182 0 152 (dk_at dksX0_tray_2 14 rfl rfl)
theorem dX0_tray_62 : decode cX0_tray 62 = .ok (.ireturn, 1) := dk_172 (dk_at dksX0_tray_2 17 rfl rfl)
abbrev cX0_isTray : ByteArray := prog_1_method_6_code
def yX0_isTray : MethodName := ⟨RX0, "isTray", "(I)Z"⟩
def dkwX0_isTray_0 : List UInt8 := [26, 155, 0, 12, 26, 7, 162, 0, 7, 4, 167, 0, 4, 3, 172]
abbrev dktX0_isTray_0 : List UInt8 := dkwX0_isTray_0 ++ []
theorem dksX0_isTray_0 : cX0_isTray.data.toList.drop 0 = dktX0_isTray_0 := by decide +kernel
theorem dX0_isTray_0 : decode cX0_isTray 0 = .ok (.iload_n 0, 1) := dk_26 (dk_at dksX0_isTray_0 0 rfl rfl)
theorem dX0_isTray_1 : decode cX0_isTray 1 = .ok (.ifCond .lt 12, 3) := dk_155 0 12 (dk_at dksX0_isTray_0 1 rfl rfl)
theorem dX0_isTray_4 : decode cX0_isTray 4 = .ok (.iload_n 0, 1) := dk_26 (dk_at dksX0_isTray_0 4 rfl rfl)
theorem dX0_isTray_5 : decode cX0_isTray 5 = .ok (.iconst 4, 1) := dk_7 (dk_at dksX0_isTray_0 5 rfl rfl)
theorem dX0_isTray_6 : decode cX0_isTray 6 = .ok (.if_icmp .ge 7, 3) := dk_162 0 7 (dk_at dksX0_isTray_0 6 rfl rfl)
theorem dX0_isTray_9 : decode cX0_isTray 9 = .ok (.iconst 1, 1) := dk_4 (dk_at dksX0_isTray_0 9 rfl rfl)
theorem dX0_isTray_10 : decode cX0_isTray 10 = .ok (.goto 4, 3) := dk_167 0 4 (dk_at dksX0_isTray_0 10 rfl rfl)
theorem dX0_isTray_13 : decode cX0_isTray 13 = .ok (.iconst 0, 1) := dk_3 (dk_at dksX0_isTray_0 13 rfl rfl)
theorem dX0_isTray_14 : decode cX0_isTray 14 = .ok (.ireturn, 1) := dk_172 (dk_at dksX0_isTray_0 14 rfl rfl)
abbrev cX0_is : ByteArray := prog_1_method_3_code
def yX0_is : MethodName := ⟨RX0, "is", "(I)Z"⟩
def dkwX0_is_0 : List UInt8 := [42, 27, 181, 0, 145, 27, 154, 0, 7, 4, 167, 0, 4, 3, 172]
abbrev dktX0_is_0 : List UInt8 := dkwX0_is_0 ++ []
theorem dksX0_is_0 : cX0_is.data.toList.drop 0 = dktX0_is_0 := by decide +kernel
theorem dX0_is_0 : decode cX0_is 0 = .ok (.aload_n 0, 1) := dk_42 (dk_at dksX0_is_0 0 rfl rfl)
theorem dX0_is_1 : decode cX0_is 1 = .ok (.iload_n 1, 1) := dk_27 (dk_at dksX0_is_0 1 rfl rfl)
theorem dX0_is_2 : decode cX0_is 2 = .ok (.putfield 145, 3) := dk_181 0 145 (dk_at dksX0_is_0 2 rfl rfl)
theorem dX0_is_5 : decode cX0_is 5 = .ok (.iload_n 1, 1) := dk_27 (dk_at dksX0_is_0 5 rfl rfl)
theorem dX0_is_6 : decode cX0_is 6 = .ok (.ifCond .ne 7, 3) := dk_154 0 7 (dk_at dksX0_is_0 6 rfl rfl)
theorem dX0_is_9 : decode cX0_is 9 = .ok (.iconst 1, 1) := dk_4 (dk_at dksX0_is_0 9 rfl rfl)
theorem dX0_is_10 : decode cX0_is 10 = .ok (.goto 4, 3) := dk_167 0 4 (dk_at dksX0_is_0 10 rfl rfl)
theorem dX0_is_13 : decode cX0_is 13 = .ok (.iconst 0, 1) := dk_3 (dk_at dksX0_is_0 13 rfl rfl)
theorem dX0_is_14 : decode cX0_is 14 = .ok (.ireturn, 1) := dk_172 (dk_at dksX0_is_0 14 rfl rfl)
abbrev cX0_write : ByteArray := prog_1_method_8_code
def yX0_write : MethodName := ⟨RX0, "write", "(IIJ)Z"⟩
def dkwX0_write_2 : List UInt8 := [172]
abbrev dktX0_write_2 : List UInt8 := dkwX0_write_2 ++ []
def dkwX0_write_1 : List UInt8 := [167, 0, 19, 58, 5, 42, 6, 182, 0, 152, 172, 58, 5, 42, 7, 182, 0, 152, 172, 42, 3, 182, 0, 152]
abbrev dktX0_write_1 : List UInt8 := dkwX0_write_1 ++ dktX0_write_2
def dkwX0_write_0 : List UInt8 := [27, 184, 0, 148, 154, 0, 9, 42, 4, 182, 0, 152, 172, 42, 180, 0, 11, 27, 50, 28, 33, 182, 0, 161]
abbrev dktX0_write_0 : List UInt8 := dkwX0_write_0 ++ dktX0_write_1
theorem dksX0_write_0 : cX0_write.data.toList.drop 0 = dktX0_write_0 := by decide +kernel
theorem dksX0_write_1 : cX0_write.data.toList.drop 24 = dktX0_write_1 := dk_seg dksX0_write_0 24 rfl rfl
theorem dksX0_write_2 : cX0_write.data.toList.drop 48 = dktX0_write_2 := dk_seg dksX0_write_1 24 rfl rfl
theorem dX0_write_0 : decode cX0_write 0 = .ok (.iload_n 1, 1) := dk_27 (dk_at dksX0_write_0 0 rfl rfl)
theorem dX0_write_1 : decode cX0_write 1 = .ok (.invokestatic 148, 3) := dk_184 0 148 (dk_at dksX0_write_0 1 rfl rfl)
theorem dX0_write_4 : decode cX0_write 4 = .ok (.ifCond .ne 9, 3) := dk_154 0 9 (dk_at dksX0_write_0 4 rfl rfl)
theorem dX0_write_7 : decode cX0_write 7 = .ok (.aload_n 0, 1) := dk_42 (dk_at dksX0_write_0 7 rfl rfl)
theorem dX0_write_8 : decode cX0_write 8 = .ok (.iconst 1, 1) := dk_4 (dk_at dksX0_write_0 8 rfl rfl)
theorem dX0_write_9 : decode cX0_write 9 = .ok (.invokevirtual 152, 3) := dk_182 0 152 (dk_at dksX0_write_0 9 rfl rfl)
theorem dX0_write_12 : decode cX0_write 12 = .ok (.ireturn, 1) := dk_172 (dk_at dksX0_write_0 12 rfl rfl)
theorem dX0_write_13 : decode cX0_write 13 = .ok (.aload_n 0, 1) := dk_42 (dk_at dksX0_write_0 13 rfl rfl)
theorem dX0_write_14 : decode cX0_write 14 = .ok (.getfield 11, 3) := dk_180 0 11 (dk_at dksX0_write_0 14 rfl rfl)
theorem dX0_write_17 : decode cX0_write 17 = .ok (.iload_n 1, 1) := dk_27 (dk_at dksX0_write_0 17 rfl rfl)
theorem dX0_write_18 : decode cX0_write 18 = .ok (.aaload, 1) := dk_50 (dk_at dksX0_write_0 18 rfl rfl)
theorem dX0_write_19 : decode cX0_write 19 = .ok (.iload_n 2, 1) := dk_28 (dk_at dksX0_write_0 19 rfl rfl)
theorem dX0_write_20 : decode cX0_write 20 = .ok (.lload_n 3, 1) := dk_33 (dk_at dksX0_write_0 20 rfl rfl)
theorem dX0_write_21 : decode cX0_write 21 = .ok (.invokevirtual 161, 3) := dk_182 0 161 (dk_at dksX0_write_0 21 rfl rfl)
theorem dX0_write_24 : decode cX0_write 24 = .ok (.goto 19, 3) := dk_167 0 19 (dk_at dksX0_write_1 0 rfl rfl)
theorem dX0_write_27 : decode cX0_write 27 = .ok (.astore 5, 2) := dk_58 5 (dk_at dksX0_write_1 3 rfl rfl)
theorem dX0_write_29 : decode cX0_write 29 = .ok (.aload_n 0, 1) := dk_42 (dk_at dksX0_write_1 5 rfl rfl)
theorem dX0_write_30 : decode cX0_write 30 = .ok (.iconst 3, 1) := dk_6 (dk_at dksX0_write_1 6 rfl rfl)
theorem dX0_write_31 : decode cX0_write 31 = .ok (.invokevirtual 152, 3) := dk_182 0 152 (dk_at dksX0_write_1 7 rfl rfl)
theorem dX0_write_34 : decode cX0_write 34 = .ok (.ireturn, 1) := dk_172 (dk_at dksX0_write_1 10 rfl rfl)
theorem dX0_write_35 : decode cX0_write 35 = .ok (.astore 5, 2) := dk_58 5 (dk_at dksX0_write_1 11 rfl rfl)
theorem dX0_write_37 : decode cX0_write 37 = .ok (.aload_n 0, 1) := dk_42 (dk_at dksX0_write_1 13 rfl rfl)
theorem dX0_write_38 : decode cX0_write 38 = .ok (.iconst 4, 1) := dk_7 (dk_at dksX0_write_1 14 rfl rfl)
theorem dX0_write_39 : decode cX0_write 39 = .ok (.invokevirtual 152, 3) := dk_182 0 152 (dk_at dksX0_write_1 15 rfl rfl)
theorem dX0_write_42 : decode cX0_write 42 = .ok (.ireturn, 1) := dk_172 (dk_at dksX0_write_1 18 rfl rfl)
theorem dX0_write_43 : decode cX0_write 43 = .ok (.aload_n 0, 1) := dk_42 (dk_at dksX0_write_1 19 rfl rfl)
theorem dX0_write_44 : decode cX0_write 44 = .ok (.iconst 0, 1) := dk_3 (dk_at dksX0_write_1 20 rfl rfl)
theorem dX0_write_45 : decode cX0_write 45 = .ok (.invokevirtual 152, 3) := dk_182 0 152 (dk_at dksX0_write_1 21 rfl rfl)
theorem dX0_write_48 : decode cX0_write 48 = .ok (.ireturn, 1) := dk_172 (dk_at dksX0_write_2 0 rfl rfl)
abbrev cX0_read : ByteArray := prog_1_method_9_code
def yX0_read : MethodName := ⟨RX0, "read", "(II)J"⟩
def dkwX0_read_2 : List UInt8 := [173]
abbrev dktX0_read_2 : List UInt8 := dkwX0_read_2 ++ []
def dkwX0_read_1 : List UInt8 := [50, 28, 182, 0, 173, 173, 78, 42, 6, 181, 0, 145, 167, 0, 9, 78, 42, 7, 181, 0, 145, 20, 0, 177]
abbrev dktX0_read_1 : List UInt8 := dkwX0_read_1 ++ dktX0_read_2
def dkwX0_read_0 : List UInt8 := [27, 184, 0, 148, 154, 0, 10, 42, 4, 182, 0, 169, 133, 173, 42, 3, 181, 0, 145, 42, 180, 0, 11, 27]
abbrev dktX0_read_0 : List UInt8 := dkwX0_read_0 ++ dktX0_read_1
theorem dksX0_read_0 : cX0_read.data.toList.drop 0 = dktX0_read_0 := by decide +kernel
theorem dksX0_read_1 : cX0_read.data.toList.drop 24 = dktX0_read_1 := dk_seg dksX0_read_0 24 rfl rfl
theorem dksX0_read_2 : cX0_read.data.toList.drop 48 = dktX0_read_2 := dk_seg dksX0_read_1 24 rfl rfl
theorem dX0_read_0 : decode cX0_read 0 = .ok (.iload_n 1, 1) := dk_27 (dk_at dksX0_read_0 0 rfl rfl)
theorem dX0_read_1 : decode cX0_read 1 = .ok (.invokestatic 148, 3) := dk_184 0 148 (dk_at dksX0_read_0 1 rfl rfl)
theorem dX0_read_4 : decode cX0_read 4 = .ok (.ifCond .ne 10, 3) := dk_154 0 10 (dk_at dksX0_read_0 4 rfl rfl)
theorem dX0_read_7 : decode cX0_read 7 = .ok (.aload_n 0, 1) := dk_42 (dk_at dksX0_read_0 7 rfl rfl)
theorem dX0_read_8 : decode cX0_read 8 = .ok (.iconst 1, 1) := dk_4 (dk_at dksX0_read_0 8 rfl rfl)
theorem dX0_read_9 : decode cX0_read 9 = .ok (.invokevirtual 169, 3) := dk_182 0 169 (dk_at dksX0_read_0 9 rfl rfl)
theorem dX0_read_12 : decode cX0_read 12 = .ok (.i2l, 1) := dk_133 (dk_at dksX0_read_0 12 rfl rfl)
theorem dX0_read_13 : decode cX0_read 13 = .ok (.lreturn, 1) := dk_173 (dk_at dksX0_read_0 13 rfl rfl)
theorem dX0_read_14 : decode cX0_read 14 = .ok (.aload_n 0, 1) := dk_42 (dk_at dksX0_read_0 14 rfl rfl)
theorem dX0_read_15 : decode cX0_read 15 = .ok (.iconst 0, 1) := dk_3 (dk_at dksX0_read_0 15 rfl rfl)
theorem dX0_read_16 : decode cX0_read 16 = .ok (.putfield 145, 3) := dk_181 0 145 (dk_at dksX0_read_0 16 rfl rfl)
theorem dX0_read_19 : decode cX0_read 19 = .ok (.aload_n 0, 1) := dk_42 (dk_at dksX0_read_0 19 rfl rfl)
theorem dX0_read_20 : decode cX0_read 20 = .ok (.getfield 11, 3) := dk_180 0 11 (dk_at dksX0_read_0 20 rfl rfl)
theorem dX0_read_23 : decode cX0_read 23 = .ok (.iload_n 1, 1) := dk_27 (dk_at dksX0_read_0 23 rfl rfl)
theorem dX0_read_24 : decode cX0_read 24 = .ok (.aaload, 1) := dk_50 (dk_at dksX0_read_1 0 rfl rfl)
theorem dX0_read_25 : decode cX0_read 25 = .ok (.iload_n 2, 1) := dk_28 (dk_at dksX0_read_1 1 rfl rfl)
theorem dX0_read_26 : decode cX0_read 26 = .ok (.invokevirtual 173, 3) := dk_182 0 173 (dk_at dksX0_read_1 2 rfl rfl)
theorem dX0_read_29 : decode cX0_read 29 = .ok (.lreturn, 1) := dk_173 (dk_at dksX0_read_1 5 rfl rfl)
theorem dX0_read_30 : decode cX0_read 30 = .ok (.astore_n 3, 1) := dk_78 (dk_at dksX0_read_1 6 rfl rfl)
theorem dX0_read_31 : decode cX0_read 31 = .ok (.aload_n 0, 1) := dk_42 (dk_at dksX0_read_1 7 rfl rfl)
theorem dX0_read_32 : decode cX0_read 32 = .ok (.iconst 3, 1) := dk_6 (dk_at dksX0_read_1 8 rfl rfl)
theorem dX0_read_33 : decode cX0_read 33 = .ok (.putfield 145, 3) := dk_181 0 145 (dk_at dksX0_read_1 9 rfl rfl)
theorem dX0_read_36 : decode cX0_read 36 = .ok (.goto 9, 3) := dk_167 0 9 (dk_at dksX0_read_1 12 rfl rfl)
theorem dX0_read_39 : decode cX0_read 39 = .ok (.astore_n 3, 1) := dk_78 (dk_at dksX0_read_1 15 rfl rfl)
theorem dX0_read_40 : decode cX0_read 40 = .ok (.aload_n 0, 1) := dk_42 (dk_at dksX0_read_1 16 rfl rfl)
theorem dX0_read_41 : decode cX0_read 41 = .ok (.iconst 4, 1) := dk_7 (dk_at dksX0_read_1 17 rfl rfl)
theorem dX0_read_42 : decode cX0_read 42 = .ok (.putfield 145, 3) := dk_181 0 145 (dk_at dksX0_read_1 18 rfl rfl)
theorem dX0_read_45 : decode cX0_read 45 = .ok (.ldc2_w 177, 3) := dk_20 0 177 (dk_at dksX0_read_1 21 rfl rfl)
theorem dX0_read_48 : decode cX0_read 48 = .ok (.lreturn, 1) := dk_173 (dk_at dksX0_read_2 0 rfl rfl)
abbrev cX0_none : ByteArray := prog_1_method_4_code
def yX0_none : MethodName := ⟨RX0, "none", "(I)I"⟩
def dkwX0_none_0 : List UInt8 := [42, 27, 181, 0, 145, 2, 172]
abbrev dktX0_none_0 : List UInt8 := dkwX0_none_0 ++ []
theorem dksX0_none_0 : cX0_none.data.toList.drop 0 = dktX0_none_0 := by decide +kernel
theorem dX0_none_0 : decode cX0_none 0 = .ok (.aload_n 0, 1) := dk_42 (dk_at dksX0_none_0 0 rfl rfl)
theorem dX0_none_1 : decode cX0_none 1 = .ok (.iload_n 1, 1) := dk_27 (dk_at dksX0_none_0 1 rfl rfl)
theorem dX0_none_2 : decode cX0_none 2 = .ok (.putfield 145, 3) := dk_181 0 145 (dk_at dksX0_none_0 2 rfl rfl)
theorem dX0_none_5 : decode cX0_none 5 = .ok (.iconst (-1), 1) := dk_2 (dk_at dksX0_none_0 5 rfl rfl)
theorem dX0_none_6 : decode cX0_none 6 = .ok (.ireturn, 1) := dk_172 (dk_at dksX0_none_0 6 rfl rfl)
abbrev cX0_pour : ByteArray := prog_1_method_10_code
def yX0_pour : MethodName := ⟨RX0, "pour", "(IIIII)Z"⟩
def dkwX0_pour_5 : List UInt8 := [7, 182, 0, 152, 172, 42, 3, 182, 0, 152, 172]
abbrev dktX0_pour_5 : List UInt8 := dkwX0_pour_5 ++ []
def dkwX0_pour_4 : List UInt8 := [167, 0, 29, 58, 8, 42, 6, 182, 0, 152, 172, 58, 8, 42, 21, 5, 156, 0, 8, 16, 6, 167, 0, 4]
abbrev dktX0_pour_4 : List UInt8 := dkwX0_pour_4 ++ dktX0_pour_5
def dkwX0_pour_3 : List UInt8 := [159, 0, 10, 42, 16, 11, 182, 0, 152, 172, 25, 6, 28, 25, 7, 21, 4, 21, 5, 184, 0, 185]
abbrev dktX0_pour_3 : List UInt8 := dkwX0_pour_3 ++ dktX0_pour_4
def dkwX0_pour_2 : List UInt8 := [25, 7, 198, 0, 31, 42, 180, 0, 11, 27, 50, 180, 0, 182, 42, 180, 0, 11, 29, 50, 180, 0, 182]
abbrev dktX0_pour_2 : List UInt8 := dkwX0_pour_2 ++ dktX0_pour_3
def dkwX0_pour_1 : List UInt8 := [27, 50, 180, 0, 179, 58, 6, 42, 180, 0, 11, 29, 50, 180, 0, 179, 58, 7, 25, 6, 198, 0, 36]
abbrev dktX0_pour_1 : List UInt8 := dkwX0_pour_1 ++ dktX0_pour_2
def dkwX0_pour_0 : List UInt8 := [27, 184, 0, 148, 153, 0, 10, 29, 184, 0, 148, 154, 0, 9, 42, 4, 182, 0, 152, 172, 42, 180, 0, 11]
abbrev dktX0_pour_0 : List UInt8 := dkwX0_pour_0 ++ dktX0_pour_1
theorem dksX0_pour_0 : cX0_pour.data.toList.drop 0 = dktX0_pour_0 := by decide +kernel
theorem dksX0_pour_1 : cX0_pour.data.toList.drop 24 = dktX0_pour_1 := dk_seg dksX0_pour_0 24 rfl rfl
theorem dksX0_pour_2 : cX0_pour.data.toList.drop 47 = dktX0_pour_2 := dk_seg dksX0_pour_1 23 rfl rfl
theorem dksX0_pour_3 : cX0_pour.data.toList.drop 70 = dktX0_pour_3 := dk_seg dksX0_pour_2 23 rfl rfl
theorem dksX0_pour_4 : cX0_pour.data.toList.drop 92 = dktX0_pour_4 := dk_seg dksX0_pour_3 22 rfl rfl
theorem dksX0_pour_5 : cX0_pour.data.toList.drop 116 = dktX0_pour_5 := dk_seg dksX0_pour_4 24 rfl rfl
theorem dX0_pour_0 : decode cX0_pour 0 = .ok (.iload_n 1, 1) := dk_27 (dk_at dksX0_pour_0 0 rfl rfl)
theorem dX0_pour_1 : decode cX0_pour 1 = .ok (.invokestatic 148, 3) := dk_184 0 148 (dk_at dksX0_pour_0 1 rfl rfl)
theorem dX0_pour_4 : decode cX0_pour 4 = .ok (.ifCond .eq 10, 3) := dk_153 0 10 (dk_at dksX0_pour_0 4 rfl rfl)
theorem dX0_pour_7 : decode cX0_pour 7 = .ok (.iload_n 3, 1) := dk_29 (dk_at dksX0_pour_0 7 rfl rfl)
theorem dX0_pour_8 : decode cX0_pour 8 = .ok (.invokestatic 148, 3) := dk_184 0 148 (dk_at dksX0_pour_0 8 rfl rfl)
theorem dX0_pour_11 : decode cX0_pour 11 = .ok (.ifCond .ne 9, 3) := dk_154 0 9 (dk_at dksX0_pour_0 11 rfl rfl)
theorem dX0_pour_14 : decode cX0_pour 14 = .ok (.aload_n 0, 1) := dk_42 (dk_at dksX0_pour_0 14 rfl rfl)
theorem dX0_pour_15 : decode cX0_pour 15 = .ok (.iconst 1, 1) := dk_4 (dk_at dksX0_pour_0 15 rfl rfl)
theorem dX0_pour_16 : decode cX0_pour 16 = .ok (.invokevirtual 152, 3) := dk_182 0 152 (dk_at dksX0_pour_0 16 rfl rfl)
theorem dX0_pour_19 : decode cX0_pour 19 = .ok (.ireturn, 1) := dk_172 (dk_at dksX0_pour_0 19 rfl rfl)
theorem dX0_pour_20 : decode cX0_pour 20 = .ok (.aload_n 0, 1) := dk_42 (dk_at dksX0_pour_0 20 rfl rfl)
theorem dX0_pour_21 : decode cX0_pour 21 = .ok (.getfield 11, 3) := dk_180 0 11 (dk_at dksX0_pour_0 21 rfl rfl)
theorem dX0_pour_24 : decode cX0_pour 24 = .ok (.iload_n 1, 1) := dk_27 (dk_at dksX0_pour_1 0 rfl rfl)
theorem dX0_pour_25 : decode cX0_pour 25 = .ok (.aaload, 1) := dk_50 (dk_at dksX0_pour_1 1 rfl rfl)
theorem dX0_pour_26 : decode cX0_pour 26 = .ok (.getfield 179, 3) := dk_180 0 179 (dk_at dksX0_pour_1 2 rfl rfl)
theorem dX0_pour_29 : decode cX0_pour 29 = .ok (.astore 6, 2) := dk_58 6 (dk_at dksX0_pour_1 5 rfl rfl)
theorem dX0_pour_31 : decode cX0_pour 31 = .ok (.aload_n 0, 1) := dk_42 (dk_at dksX0_pour_1 7 rfl rfl)
theorem dX0_pour_32 : decode cX0_pour 32 = .ok (.getfield 11, 3) := dk_180 0 11 (dk_at dksX0_pour_1 8 rfl rfl)
theorem dX0_pour_35 : decode cX0_pour 35 = .ok (.iload_n 3, 1) := dk_29 (dk_at dksX0_pour_1 11 rfl rfl)
theorem dX0_pour_36 : decode cX0_pour 36 = .ok (.aaload, 1) := dk_50 (dk_at dksX0_pour_1 12 rfl rfl)
theorem dX0_pour_37 : decode cX0_pour 37 = .ok (.getfield 179, 3) := dk_180 0 179 (dk_at dksX0_pour_1 13 rfl rfl)
theorem dX0_pour_40 : decode cX0_pour 40 = .ok (.astore 7, 2) := dk_58 7 (dk_at dksX0_pour_1 16 rfl rfl)
theorem dX0_pour_42 : decode cX0_pour 42 = .ok (.aload 6, 2) := dk_25 6 (dk_at dksX0_pour_1 18 rfl rfl)
theorem dX0_pour_44 : decode cX0_pour 44 = .ok (.ifnull 36, 3) := dk_198 0 36 (dk_at dksX0_pour_1 20 rfl rfl)
theorem dX0_pour_47 : decode cX0_pour 47 = .ok (.aload 7, 2) := dk_25 7 (dk_at dksX0_pour_2 0 rfl rfl)
theorem dX0_pour_49 : decode cX0_pour 49 = .ok (.ifnull 31, 3) := dk_198 0 31 (dk_at dksX0_pour_2 2 rfl rfl)
theorem dX0_pour_52 : decode cX0_pour 52 = .ok (.aload_n 0, 1) := dk_42 (dk_at dksX0_pour_2 5 rfl rfl)
theorem dX0_pour_53 : decode cX0_pour 53 = .ok (.getfield 11, 3) := dk_180 0 11 (dk_at dksX0_pour_2 6 rfl rfl)
theorem dX0_pour_56 : decode cX0_pour 56 = .ok (.iload_n 1, 1) := dk_27 (dk_at dksX0_pour_2 9 rfl rfl)
theorem dX0_pour_57 : decode cX0_pour 57 = .ok (.aaload, 1) := dk_50 (dk_at dksX0_pour_2 10 rfl rfl)
theorem dX0_pour_58 : decode cX0_pour 58 = .ok (.getfield 182, 3) := dk_180 0 182 (dk_at dksX0_pour_2 11 rfl rfl)
theorem dX0_pour_61 : decode cX0_pour 61 = .ok (.aload_n 0, 1) := dk_42 (dk_at dksX0_pour_2 14 rfl rfl)
theorem dX0_pour_62 : decode cX0_pour 62 = .ok (.getfield 11, 3) := dk_180 0 11 (dk_at dksX0_pour_2 15 rfl rfl)
theorem dX0_pour_65 : decode cX0_pour 65 = .ok (.iload_n 3, 1) := dk_29 (dk_at dksX0_pour_2 18 rfl rfl)
theorem dX0_pour_66 : decode cX0_pour 66 = .ok (.aaload, 1) := dk_50 (dk_at dksX0_pour_2 19 rfl rfl)
theorem dX0_pour_67 : decode cX0_pour 67 = .ok (.getfield 182, 3) := dk_180 0 182 (dk_at dksX0_pour_2 20 rfl rfl)
theorem dX0_pour_70 : decode cX0_pour 70 = .ok (.if_icmp .eq 10, 3) := dk_159 0 10 (dk_at dksX0_pour_3 0 rfl rfl)
theorem dX0_pour_73 : decode cX0_pour 73 = .ok (.aload_n 0, 1) := dk_42 (dk_at dksX0_pour_3 3 rfl rfl)
theorem dX0_pour_74 : decode cX0_pour 74 = .ok (.bipush 11, 2) := dk_16 11 (dk_at dksX0_pour_3 4 rfl rfl)
theorem dX0_pour_76 : decode cX0_pour 76 = .ok (.invokevirtual 152, 3) := dk_182 0 152 (dk_at dksX0_pour_3 6 rfl rfl)
theorem dX0_pour_79 : decode cX0_pour 79 = .ok (.ireturn, 1) := dk_172 (dk_at dksX0_pour_3 9 rfl rfl)
theorem dX0_pour_80 : decode cX0_pour 80 = .ok (.aload 6, 2) := dk_25 6 (dk_at dksX0_pour_3 10 rfl rfl)
theorem dX0_pour_82 : decode cX0_pour 82 = .ok (.iload_n 2, 1) := dk_28 (dk_at dksX0_pour_3 12 rfl rfl)
theorem dX0_pour_83 : decode cX0_pour 83 = .ok (.aload 7, 2) := dk_25 7 (dk_at dksX0_pour_3 13 rfl rfl)
theorem dX0_pour_85 : decode cX0_pour 85 = .ok (.iload 4, 2) := dk_21 4 (dk_at dksX0_pour_3 15 rfl rfl)
theorem dX0_pour_87 : decode cX0_pour 87 = .ok (.iload 5, 2) := dk_21 5 (dk_at dksX0_pour_3 17 rfl rfl)
theorem dX0_pour_89 : decode cX0_pour 89 = .ok (.invokestatic 185, 3) := dk_184 0 185 (dk_at dksX0_pour_3 19 rfl rfl)
theorem dX0_pour_92 : decode cX0_pour 92 = .ok (.goto 29, 3) := dk_167 0 29 (dk_at dksX0_pour_4 0 rfl rfl)
theorem dX0_pour_95 : decode cX0_pour 95 = .ok (.astore 8, 2) := dk_58 8 (dk_at dksX0_pour_4 3 rfl rfl)
theorem dX0_pour_97 : decode cX0_pour 97 = .ok (.aload_n 0, 1) := dk_42 (dk_at dksX0_pour_4 5 rfl rfl)
theorem dX0_pour_98 : decode cX0_pour 98 = .ok (.iconst 3, 1) := dk_6 (dk_at dksX0_pour_4 6 rfl rfl)
theorem dX0_pour_99 : decode cX0_pour 99 = .ok (.invokevirtual 152, 3) := dk_182 0 152 (dk_at dksX0_pour_4 7 rfl rfl)
theorem dX0_pour_102 : decode cX0_pour 102 = .ok (.ireturn, 1) := dk_172 (dk_at dksX0_pour_4 10 rfl rfl)
theorem dX0_pour_103 : decode cX0_pour 103 = .ok (.astore 8, 2) := dk_58 8 (dk_at dksX0_pour_4 11 rfl rfl)
theorem dX0_pour_105 : decode cX0_pour 105 = .ok (.aload_n 0, 1) := dk_42 (dk_at dksX0_pour_4 13 rfl rfl)
theorem dX0_pour_106 : decode cX0_pour 106 = .ok (.iload 5, 2) := dk_21 5 (dk_at dksX0_pour_4 14 rfl rfl)
theorem dX0_pour_108 : decode cX0_pour 108 = .ok (.ifCond .ge 8, 3) := dk_156 0 8 (dk_at dksX0_pour_4 16 rfl rfl)
theorem dX0_pour_111 : decode cX0_pour 111 = .ok (.bipush 6, 2) := dk_16 6 (dk_at dksX0_pour_4 19 rfl rfl)
theorem dX0_pour_113 : decode cX0_pour 113 = .ok (.goto 4, 3) := dk_167 0 4 (dk_at dksX0_pour_4 21 rfl rfl)
theorem dX0_pour_116 : decode cX0_pour 116 = .ok (.iconst 4, 1) := dk_7 (dk_at dksX0_pour_5 0 rfl rfl)
theorem dX0_pour_117 : decode cX0_pour 117 = .ok (.invokevirtual 152, 3) := dk_182 0 152 (dk_at dksX0_pour_5 1 rfl rfl)
theorem dX0_pour_120 : decode cX0_pour 120 = .ok (.ireturn, 1) := dk_172 (dk_at dksX0_pour_5 4 rfl rfl)
theorem dX0_pour_121 : decode cX0_pour 121 = .ok (.aload_n 0, 1) := dk_42 (dk_at dksX0_pour_5 5 rfl rfl)
theorem dX0_pour_122 : decode cX0_pour 122 = .ok (.iconst 0, 1) := dk_3 (dk_at dksX0_pour_5 6 rfl rfl)
theorem dX0_pour_123 : decode cX0_pour 123 = .ok (.invokevirtual 152, 3) := dk_182 0 152 (dk_at dksX0_pour_5 7 rfl rfl)
theorem dX0_pour_126 : decode cX0_pour 126 = .ok (.ireturn, 1) := dk_172 (dk_at dksX0_pour_5 10 rfl rfl)
abbrev cX0_engine : ByteArray := prog_1_method_13_code
def yX0_engine : MethodName := ⟨RX0, "engine", "(III)I"⟩
def dkwX0_engine_9 : List UInt8 := [180, 0, 193, 4, 100, 182, 0, 215, 172]
abbrev dktX0_engine_9 : List UInt8 := dkwX0_engine_9 ++ []
def dkwX0_engine_8 : List UInt8 := [187, 0, 15, 89, 27, 28, 25, 5, 183, 0, 212, 83, 42, 89, 180, 0, 193, 4, 96, 181, 0, 193, 42, 42]
abbrev dktX0_engine_8 : List UInt8 := dkwX0_engine_8 ++ dktX0_engine_9
def dkwX0_engine_7 : List UInt8 := [25, 4, 21, 6, 182, 0, 173, 136, 79, 132, 6, 1, 167, 255, 234, 42, 180, 0, 17, 42, 180, 0, 193]
abbrev dktX0_engine_7 : List UInt8 := dkwX0_engine_7 ++ dktX0_engine_8
def dkwX0_engine_6 : List UInt8 := [182, 0, 169, 172, 16, 12, 188, 10, 58, 5, 3, 54, 6, 21, 6, 28, 162, 0, 22, 25, 5, 21, 6]
abbrev dktX0_engine_6 : List UInt8 := dkwX0_engine_6 ++ dktX0_engine_7
def dkwX0_engine_5 : List UInt8 := [42, 8, 182, 0, 169, 172, 132, 5, 1, 167, 255, 213, 42, 180, 0, 193, 7, 160, 0, 10, 42, 16, 7]
abbrev dktX0_engine_5 : List UInt8 := dkwX0_engine_5 ++ dktX0_engine_6
def dkwX0_engine_4 : List UInt8 := [182, 0, 173, 20, 0, 208, 148, 155, 0, 17, 25, 4, 21, 5, 182, 0, 173, 20, 0, 210, 148, 158, 0, 9]
abbrev dktX0_engine_4 : List UInt8 := dkwX0_engine_4 ++ dktX0_engine_5
def dkwX0_engine_3 : List UInt8 := [162, 0, 9, 42, 7, 182, 0, 169, 172, 3, 54, 5, 21, 5, 28, 162, 0, 43, 25, 4, 21, 5]
abbrev dktX0_engine_3 : List UInt8 := dkwX0_engine_3 ++ dktX0_engine_4
def dkwX0_engine_2 : List UInt8 := [4, 161, 0, 9, 28, 16, 12, 164, 0, 9, 42, 8, 182, 0, 169, 172, 25, 4, 182, 0, 204, 28]
abbrev dktX0_engine_2 : List UInt8 := dkwX0_engine_2 ++ dktX0_engine_3
def dkwX0_engine_1 : List UInt8 := [180, 0, 179, 199, 0, 9, 42, 6, 182, 0, 169, 172, 27, 5, 161, 0, 20, 27, 16, 7, 163, 0, 14, 28]
abbrev dktX0_engine_1 : List UInt8 := dkwX0_engine_1 ++ dktX0_engine_2
def dkwX0_engine_0 : List UInt8 := [29, 184, 0, 148, 154, 0, 9, 42, 4, 182, 0, 169, 172, 42, 180, 0, 11, 29, 50, 58, 4, 25, 4]
abbrev dktX0_engine_0 : List UInt8 := dkwX0_engine_0 ++ dktX0_engine_1
theorem dksX0_engine_0 : cX0_engine.data.toList.drop 0 = dktX0_engine_0 := by decide +kernel
theorem dksX0_engine_1 : cX0_engine.data.toList.drop 23 = dktX0_engine_1 := dk_seg dksX0_engine_0 23 rfl rfl
theorem dksX0_engine_2 : cX0_engine.data.toList.drop 47 = dktX0_engine_2 := dk_seg dksX0_engine_1 24 rfl rfl
theorem dksX0_engine_3 : cX0_engine.data.toList.drop 69 = dktX0_engine_3 := dk_seg dksX0_engine_2 22 rfl rfl
theorem dksX0_engine_4 : cX0_engine.data.toList.drop 91 = dktX0_engine_4 := dk_seg dksX0_engine_3 22 rfl rfl
theorem dksX0_engine_5 : cX0_engine.data.toList.drop 115 = dktX0_engine_5 := dk_seg dksX0_engine_4 24 rfl rfl
theorem dksX0_engine_6 : cX0_engine.data.toList.drop 138 = dktX0_engine_6 := dk_seg dksX0_engine_5 23 rfl rfl
theorem dksX0_engine_7 : cX0_engine.data.toList.drop 161 = dktX0_engine_7 := dk_seg dksX0_engine_6 23 rfl rfl
theorem dksX0_engine_8 : cX0_engine.data.toList.drop 184 = dktX0_engine_8 := dk_seg dksX0_engine_7 23 rfl rfl
theorem dksX0_engine_9 : cX0_engine.data.toList.drop 208 = dktX0_engine_9 := dk_seg dksX0_engine_8 24 rfl rfl
theorem dX0_engine_0 : decode cX0_engine 0 = .ok (.iload_n 3, 1) := dk_29 (dk_at dksX0_engine_0 0 rfl rfl)
theorem dX0_engine_1 : decode cX0_engine 1 = .ok (.invokestatic 148, 3) := dk_184 0 148 (dk_at dksX0_engine_0 1 rfl rfl)
theorem dX0_engine_4 : decode cX0_engine 4 = .ok (.ifCond .ne 9, 3) := dk_154 0 9 (dk_at dksX0_engine_0 4 rfl rfl)
theorem dX0_engine_7 : decode cX0_engine 7 = .ok (.aload_n 0, 1) := dk_42 (dk_at dksX0_engine_0 7 rfl rfl)
theorem dX0_engine_8 : decode cX0_engine 8 = .ok (.iconst 1, 1) := dk_4 (dk_at dksX0_engine_0 8 rfl rfl)
theorem dX0_engine_9 : decode cX0_engine 9 = .ok (.invokevirtual 169, 3) := dk_182 0 169 (dk_at dksX0_engine_0 9 rfl rfl)
theorem dX0_engine_12 : decode cX0_engine 12 = .ok (.ireturn, 1) := dk_172 (dk_at dksX0_engine_0 12 rfl rfl)
theorem dX0_engine_13 : decode cX0_engine 13 = .ok (.aload_n 0, 1) := dk_42 (dk_at dksX0_engine_0 13 rfl rfl)
theorem dX0_engine_14 : decode cX0_engine 14 = .ok (.getfield 11, 3) := dk_180 0 11 (dk_at dksX0_engine_0 14 rfl rfl)
theorem dX0_engine_17 : decode cX0_engine 17 = .ok (.iload_n 3, 1) := dk_29 (dk_at dksX0_engine_0 17 rfl rfl)
theorem dX0_engine_18 : decode cX0_engine 18 = .ok (.aaload, 1) := dk_50 (dk_at dksX0_engine_0 18 rfl rfl)
theorem dX0_engine_19 : decode cX0_engine 19 = .ok (.astore 4, 2) := dk_58 4 (dk_at dksX0_engine_0 19 rfl rfl)
theorem dX0_engine_21 : decode cX0_engine 21 = .ok (.aload 4, 2) := dk_25 4 (dk_at dksX0_engine_0 21 rfl rfl)
theorem dX0_engine_23 : decode cX0_engine 23 = .ok (.getfield 179, 3) := dk_180 0 179 (dk_at dksX0_engine_1 0 rfl rfl)
theorem dX0_engine_26 : decode cX0_engine 26 = .ok (.ifnonnull 9, 3) := dk_199 0 9 (dk_at dksX0_engine_1 3 rfl rfl)
theorem dX0_engine_29 : decode cX0_engine 29 = .ok (.aload_n 0, 1) := dk_42 (dk_at dksX0_engine_1 6 rfl rfl)
theorem dX0_engine_30 : decode cX0_engine 30 = .ok (.iconst 3, 1) := dk_6 (dk_at dksX0_engine_1 7 rfl rfl)
theorem dX0_engine_31 : decode cX0_engine 31 = .ok (.invokevirtual 169, 3) := dk_182 0 169 (dk_at dksX0_engine_1 8 rfl rfl)
theorem dX0_engine_34 : decode cX0_engine 34 = .ok (.ireturn, 1) := dk_172 (dk_at dksX0_engine_1 11 rfl rfl)
theorem dX0_engine_35 : decode cX0_engine 35 = .ok (.iload_n 1, 1) := dk_27 (dk_at dksX0_engine_1 12 rfl rfl)
theorem dX0_engine_36 : decode cX0_engine 36 = .ok (.iconst 2, 1) := dk_5 (dk_at dksX0_engine_1 13 rfl rfl)
theorem dX0_engine_37 : decode cX0_engine 37 = .ok (.if_icmp .lt 20, 3) := dk_161 0 20 (dk_at dksX0_engine_1 14 rfl rfl)
theorem dX0_engine_40 : decode cX0_engine 40 = .ok (.iload_n 1, 1) := dk_27 (dk_at dksX0_engine_1 17 rfl rfl)
theorem dX0_engine_41 : decode cX0_engine 41 = .ok (.bipush 7, 2) := dk_16 7 (dk_at dksX0_engine_1 18 rfl rfl)
theorem dX0_engine_43 : decode cX0_engine 43 = .ok (.if_icmp .gt 14, 3) := dk_163 0 14 (dk_at dksX0_engine_1 20 rfl rfl)
theorem dX0_engine_46 : decode cX0_engine 46 = .ok (.iload_n 2, 1) := dk_28 (dk_at dksX0_engine_1 23 rfl rfl)
theorem dX0_engine_47 : decode cX0_engine 47 = .ok (.iconst 1, 1) := dk_4 (dk_at dksX0_engine_2 0 rfl rfl)
theorem dX0_engine_48 : decode cX0_engine 48 = .ok (.if_icmp .lt 9, 3) := dk_161 0 9 (dk_at dksX0_engine_2 1 rfl rfl)
theorem dX0_engine_51 : decode cX0_engine 51 = .ok (.iload_n 2, 1) := dk_28 (dk_at dksX0_engine_2 4 rfl rfl)
theorem dX0_engine_52 : decode cX0_engine 52 = .ok (.bipush 12, 2) := dk_16 12 (dk_at dksX0_engine_2 5 rfl rfl)
theorem dX0_engine_54 : decode cX0_engine 54 = .ok (.if_icmp .le 9, 3) := dk_164 0 9 (dk_at dksX0_engine_2 7 rfl rfl)
theorem dX0_engine_57 : decode cX0_engine 57 = .ok (.aload_n 0, 1) := dk_42 (dk_at dksX0_engine_2 10 rfl rfl)
theorem dX0_engine_58 : decode cX0_engine 58 = .ok (.iconst 5, 1) := dk_8 (dk_at dksX0_engine_2 11 rfl rfl)
theorem dX0_engine_59 : decode cX0_engine 59 = .ok (.invokevirtual 169, 3) := dk_182 0 169 (dk_at dksX0_engine_2 12 rfl rfl)
theorem dX0_engine_62 : decode cX0_engine 62 = .ok (.ireturn, 1) := dk_172 (dk_at dksX0_engine_2 15 rfl rfl)
theorem dX0_engine_63 : decode cX0_engine 63 = .ok (.aload 4, 2) := dk_25 4 (dk_at dksX0_engine_2 16 rfl rfl)
theorem dX0_engine_65 : decode cX0_engine 65 = .ok (.invokevirtual 204, 3) := dk_182 0 204 (dk_at dksX0_engine_2 18 rfl rfl)
theorem dX0_engine_68 : decode cX0_engine 68 = .ok (.iload_n 2, 1) := dk_28 (dk_at dksX0_engine_2 21 rfl rfl)
theorem dX0_engine_69 : decode cX0_engine 69 = .ok (.if_icmp .ge 9, 3) := dk_162 0 9 (dk_at dksX0_engine_3 0 rfl rfl)
theorem dX0_engine_72 : decode cX0_engine 72 = .ok (.aload_n 0, 1) := dk_42 (dk_at dksX0_engine_3 3 rfl rfl)
theorem dX0_engine_73 : decode cX0_engine 73 = .ok (.iconst 4, 1) := dk_7 (dk_at dksX0_engine_3 4 rfl rfl)
theorem dX0_engine_74 : decode cX0_engine 74 = .ok (.invokevirtual 169, 3) := dk_182 0 169 (dk_at dksX0_engine_3 5 rfl rfl)
theorem dX0_engine_77 : decode cX0_engine 77 = .ok (.ireturn, 1) := dk_172 (dk_at dksX0_engine_3 8 rfl rfl)
theorem dX0_engine_78 : decode cX0_engine 78 = .ok (.iconst 0, 1) := dk_3 (dk_at dksX0_engine_3 9 rfl rfl)
theorem dX0_engine_79 : decode cX0_engine 79 = .ok (.istore 5, 2) := dk_54 5 (dk_at dksX0_engine_3 10 rfl rfl)
theorem dX0_engine_81 : decode cX0_engine 81 = .ok (.iload 5, 2) := dk_21 5 (dk_at dksX0_engine_3 12 rfl rfl)
theorem dX0_engine_83 : decode cX0_engine 83 = .ok (.iload_n 2, 1) := dk_28 (dk_at dksX0_engine_3 14 rfl rfl)
theorem dX0_engine_84 : decode cX0_engine 84 = .ok (.if_icmp .ge 43, 3) := dk_162 0 43 (dk_at dksX0_engine_3 15 rfl rfl)
theorem dX0_engine_87 : decode cX0_engine 87 = .ok (.aload 4, 2) := dk_25 4 (dk_at dksX0_engine_3 18 rfl rfl)
theorem dX0_engine_89 : decode cX0_engine 89 = .ok (.iload 5, 2) := dk_21 5 (dk_at dksX0_engine_3 20 rfl rfl)
theorem dX0_engine_91 : decode cX0_engine 91 = .ok (.invokevirtual 173, 3) := dk_182 0 173 (dk_at dksX0_engine_4 0 rfl rfl)
theorem dX0_engine_94 : decode cX0_engine 94 = .ok (.ldc2_w 208, 3) := dk_20 0 208 (dk_at dksX0_engine_4 3 rfl rfl)
theorem dX0_engine_97 : decode cX0_engine 97 = .ok (.lcmp, 1) := dk_148 (dk_at dksX0_engine_4 6 rfl rfl)
theorem dX0_engine_98 : decode cX0_engine 98 = .ok (.ifCond .lt 17, 3) := dk_155 0 17 (dk_at dksX0_engine_4 7 rfl rfl)
theorem dX0_engine_101 : decode cX0_engine 101 = .ok (.aload 4, 2) := dk_25 4 (dk_at dksX0_engine_4 10 rfl rfl)
theorem dX0_engine_103 : decode cX0_engine 103 = .ok (.iload 5, 2) := dk_21 5 (dk_at dksX0_engine_4 12 rfl rfl)
theorem dX0_engine_105 : decode cX0_engine 105 = .ok (.invokevirtual 173, 3) := dk_182 0 173 (dk_at dksX0_engine_4 14 rfl rfl)
theorem dX0_engine_108 : decode cX0_engine 108 = .ok (.ldc2_w 210, 3) := dk_20 0 210 (dk_at dksX0_engine_4 17 rfl rfl)
theorem dX0_engine_111 : decode cX0_engine 111 = .ok (.lcmp, 1) := dk_148 (dk_at dksX0_engine_4 20 rfl rfl)
theorem dX0_engine_112 : decode cX0_engine 112 = .ok (.ifCond .le 9, 3) := dk_158 0 9 (dk_at dksX0_engine_4 21 rfl rfl)
theorem dX0_engine_115 : decode cX0_engine 115 = .ok (.aload_n 0, 1) := dk_42 (dk_at dksX0_engine_5 0 rfl rfl)
theorem dX0_engine_116 : decode cX0_engine 116 = .ok (.iconst 5, 1) := dk_8 (dk_at dksX0_engine_5 1 rfl rfl)
theorem dX0_engine_117 : decode cX0_engine 117 = .ok (.invokevirtual 169, 3) := dk_182 0 169 (dk_at dksX0_engine_5 2 rfl rfl)
theorem dX0_engine_120 : decode cX0_engine 120 = .ok (.ireturn, 1) := dk_172 (dk_at dksX0_engine_5 5 rfl rfl)
theorem dX0_engine_121 : decode cX0_engine 121 = .ok (.iinc 5 1, 3) := dk_132 5 1 (dk_at dksX0_engine_5 6 rfl rfl)
theorem dX0_engine_124 : decode cX0_engine 124 = .ok (.goto (-43), 3) := dk_167 255 213 (dk_at dksX0_engine_5 9 rfl rfl)
theorem dX0_engine_127 : decode cX0_engine 127 = .ok (.aload_n 0, 1) := dk_42 (dk_at dksX0_engine_5 12 rfl rfl)
theorem dX0_engine_128 : decode cX0_engine 128 = .ok (.getfield 193, 3) := dk_180 0 193 (dk_at dksX0_engine_5 13 rfl rfl)
theorem dX0_engine_131 : decode cX0_engine 131 = .ok (.iconst 4, 1) := dk_7 (dk_at dksX0_engine_5 16 rfl rfl)
theorem dX0_engine_132 : decode cX0_engine 132 = .ok (.if_icmp .ne 10, 3) := dk_160 0 10 (dk_at dksX0_engine_5 17 rfl rfl)
theorem dX0_engine_135 : decode cX0_engine 135 = .ok (.aload_n 0, 1) := dk_42 (dk_at dksX0_engine_5 20 rfl rfl)
theorem dX0_engine_136 : decode cX0_engine 136 = .ok (.bipush 7, 2) := dk_16 7 (dk_at dksX0_engine_5 21 rfl rfl)
theorem dX0_engine_138 : decode cX0_engine 138 = .ok (.invokevirtual 169, 3) := dk_182 0 169 (dk_at dksX0_engine_6 0 rfl rfl)
theorem dX0_engine_141 : decode cX0_engine 141 = .ok (.ireturn, 1) := dk_172 (dk_at dksX0_engine_6 3 rfl rfl)
theorem dX0_engine_142 : decode cX0_engine 142 = .ok (.bipush 12, 2) := dk_16 12 (dk_at dksX0_engine_6 4 rfl rfl)
theorem dX0_engine_144 : decode cX0_engine 144 = .ok (.newarray .int, 2) := dk_188_10 (dk_at dksX0_engine_6 6 rfl rfl)
theorem dX0_engine_146 : decode cX0_engine 146 = .ok (.astore 5, 2) := dk_58 5 (dk_at dksX0_engine_6 8 rfl rfl)
theorem dX0_engine_148 : decode cX0_engine 148 = .ok (.iconst 0, 1) := dk_3 (dk_at dksX0_engine_6 10 rfl rfl)
theorem dX0_engine_149 : decode cX0_engine 149 = .ok (.istore 6, 2) := dk_54 6 (dk_at dksX0_engine_6 11 rfl rfl)
theorem dX0_engine_151 : decode cX0_engine 151 = .ok (.iload 6, 2) := dk_21 6 (dk_at dksX0_engine_6 13 rfl rfl)
theorem dX0_engine_153 : decode cX0_engine 153 = .ok (.iload_n 2, 1) := dk_28 (dk_at dksX0_engine_6 15 rfl rfl)
theorem dX0_engine_154 : decode cX0_engine 154 = .ok (.if_icmp .ge 22, 3) := dk_162 0 22 (dk_at dksX0_engine_6 16 rfl rfl)
theorem dX0_engine_157 : decode cX0_engine 157 = .ok (.aload 5, 2) := dk_25 5 (dk_at dksX0_engine_6 19 rfl rfl)
theorem dX0_engine_159 : decode cX0_engine 159 = .ok (.iload 6, 2) := dk_21 6 (dk_at dksX0_engine_6 21 rfl rfl)
theorem dX0_engine_161 : decode cX0_engine 161 = .ok (.aload 4, 2) := dk_25 4 (dk_at dksX0_engine_7 0 rfl rfl)
theorem dX0_engine_163 : decode cX0_engine 163 = .ok (.iload 6, 2) := dk_21 6 (dk_at dksX0_engine_7 2 rfl rfl)
theorem dX0_engine_165 : decode cX0_engine 165 = .ok (.invokevirtual 173, 3) := dk_182 0 173 (dk_at dksX0_engine_7 4 rfl rfl)
theorem dX0_engine_168 : decode cX0_engine 168 = .ok (.l2i, 1) := dk_136 (dk_at dksX0_engine_7 7 rfl rfl)
theorem dX0_engine_169 : decode cX0_engine 169 = .ok (.iastore, 1) := dk_79 (dk_at dksX0_engine_7 8 rfl rfl)
theorem dX0_engine_170 : decode cX0_engine 170 = .ok (.iinc 6 1, 3) := dk_132 6 1 (dk_at dksX0_engine_7 9 rfl rfl)
theorem dX0_engine_173 : decode cX0_engine 173 = .ok (.goto (-22), 3) := dk_167 255 234 (dk_at dksX0_engine_7 12 rfl rfl)
theorem dX0_engine_176 : decode cX0_engine 176 = .ok (.aload_n 0, 1) := dk_42 (dk_at dksX0_engine_7 15 rfl rfl)
theorem dX0_engine_177 : decode cX0_engine 177 = .ok (.getfield 17, 3) := dk_180 0 17 (dk_at dksX0_engine_7 16 rfl rfl)
theorem dX0_engine_180 : decode cX0_engine 180 = .ok (.aload_n 0, 1) := dk_42 (dk_at dksX0_engine_7 19 rfl rfl)
theorem dX0_engine_181 : decode cX0_engine 181 = .ok (.getfield 193, 3) := dk_180 0 193 (dk_at dksX0_engine_7 20 rfl rfl)
theorem dX0_engine_184 : decode cX0_engine 184 = .ok (.new 15, 3) := dk_187 0 15 (dk_at dksX0_engine_8 0 rfl rfl)
theorem dX0_engine_187 : decode cX0_engine 187 = .ok (.dup, 1) := dk_89 (dk_at dksX0_engine_8 3 rfl rfl)
theorem dX0_engine_188 : decode cX0_engine 188 = .ok (.iload_n 1, 1) := dk_27 (dk_at dksX0_engine_8 4 rfl rfl)
theorem dX0_engine_189 : decode cX0_engine 189 = .ok (.iload_n 2, 1) := dk_28 (dk_at dksX0_engine_8 5 rfl rfl)
theorem dX0_engine_190 : decode cX0_engine 190 = .ok (.aload 5, 2) := dk_25 5 (dk_at dksX0_engine_8 6 rfl rfl)
theorem dX0_engine_192 : decode cX0_engine 192 = .ok (.invokespecial 212, 3) := dk_183 0 212 (dk_at dksX0_engine_8 8 rfl rfl)
theorem dX0_engine_195 : decode cX0_engine 195 = .ok (.aastore, 1) := dk_83 (dk_at dksX0_engine_8 11 rfl rfl)
theorem dX0_engine_196 : decode cX0_engine 196 = .ok (.aload_n 0, 1) := dk_42 (dk_at dksX0_engine_8 12 rfl rfl)
theorem dX0_engine_197 : decode cX0_engine 197 = .ok (.dup, 1) := dk_89 (dk_at dksX0_engine_8 13 rfl rfl)
theorem dX0_engine_198 : decode cX0_engine 198 = .ok (.getfield 193, 3) := dk_180 0 193 (dk_at dksX0_engine_8 14 rfl rfl)
theorem dX0_engine_201 : decode cX0_engine 201 = .ok (.iconst 1, 1) := dk_4 (dk_at dksX0_engine_8 17 rfl rfl)
theorem dX0_engine_202 : decode cX0_engine 202 = .ok (.iadd, 1) := dk_96 (dk_at dksX0_engine_8 18 rfl rfl)
theorem dX0_engine_203 : decode cX0_engine 203 = .ok (.putfield 193, 3) := dk_181 0 193 (dk_at dksX0_engine_8 19 rfl rfl)
theorem dX0_engine_206 : decode cX0_engine 206 = .ok (.aload_n 0, 1) := dk_42 (dk_at dksX0_engine_8 22 rfl rfl)
theorem dX0_engine_207 : decode cX0_engine 207 = .ok (.aload_n 0, 1) := dk_42 (dk_at dksX0_engine_8 23 rfl rfl)
theorem dX0_engine_208 : decode cX0_engine 208 = .ok (.getfield 193, 3) := dk_180 0 193 (dk_at dksX0_engine_9 0 rfl rfl)
theorem dX0_engine_211 : decode cX0_engine 211 = .ok (.iconst 1, 1) := dk_4 (dk_at dksX0_engine_9 3 rfl rfl)
theorem dX0_engine_212 : decode cX0_engine 212 = .ok (.isub, 1) := dk_100 (dk_at dksX0_engine_9 4 rfl rfl)
theorem dX0_engine_213 : decode cX0_engine 213 = .ok (.invokevirtual 215, 3) := dk_182 0 215 (dk_at dksX0_engine_9 5 rfl rfl)
theorem dX0_engine_216 : decode cX0_engine 216 = .ok (.ireturn, 1) := dk_172 (dk_at dksX0_engine_9 8 rfl rfl)
abbrev cX0_gives : ByteArray := prog_1_method_5_code
def yX0_gives : MethodName := ⟨RX0, "gives", "(I)I"⟩
def dkwX0_gives_0 : List UInt8 := [42, 3, 181, 0, 145, 27, 172]
abbrev dktX0_gives_0 : List UInt8 := dkwX0_gives_0 ++ []
theorem dksX0_gives_0 : cX0_gives.data.toList.drop 0 = dktX0_gives_0 := by decide +kernel
theorem dX0_gives_0 : decode cX0_gives 0 = .ok (.aload_n 0, 1) := dk_42 (dk_at dksX0_gives_0 0 rfl rfl)
theorem dX0_gives_1 : decode cX0_gives 1 = .ok (.iconst 0, 1) := dk_3 (dk_at dksX0_gives_0 1 rfl rfl)
theorem dX0_gives_2 : decode cX0_gives 2 = .ok (.putfield 145, 3) := dk_181 0 145 (dk_at dksX0_gives_0 2 rfl rfl)
theorem dX0_gives_5 : decode cX0_gives 5 = .ok (.iload_n 1, 1) := dk_27 (dk_at dksX0_gives_0 5 rfl rfl)
theorem dX0_gives_6 : decode cX0_gives 6 = .ok (.ireturn, 1) := dk_172 (dk_at dksX0_gives_0 6 rfl rfl)
abbrev cX0_figure : ByteArray := prog_1_method_14_code
def yX0_figure : MethodName := ⟨RX0, "figure", "(III)I"⟩
def dkwX0_figure_1 : List UInt8 := [180, 0, 226, 29, 46, 182, 0, 215, 167, 0, 8, 42, 5, 182, 0, 169, 172]
abbrev dktX0_figure_1 : List UInt8 := dkwX0_figure_1 ++ []
def dkwX0_figure_0 : List UInt8 := [42, 27, 28, 29, 182, 0, 218, 153, 0, 26, 42, 42, 180, 0, 17, 27, 50, 180, 0, 222, 28, 50]
abbrev dktX0_figure_0 : List UInt8 := dkwX0_figure_0 ++ dktX0_figure_1
theorem dksX0_figure_0 : cX0_figure.data.toList.drop 0 = dktX0_figure_0 := by decide +kernel
theorem dksX0_figure_1 : cX0_figure.data.toList.drop 22 = dktX0_figure_1 := dk_seg dksX0_figure_0 22 rfl rfl
theorem dX0_figure_0 : decode cX0_figure 0 = .ok (.aload_n 0, 1) := dk_42 (dk_at dksX0_figure_0 0 rfl rfl)
theorem dX0_figure_1 : decode cX0_figure 1 = .ok (.iload_n 1, 1) := dk_27 (dk_at dksX0_figure_0 1 rfl rfl)
theorem dX0_figure_2 : decode cX0_figure 2 = .ok (.iload_n 2, 1) := dk_28 (dk_at dksX0_figure_0 2 rfl rfl)
theorem dX0_figure_3 : decode cX0_figure 3 = .ok (.iload_n 3, 1) := dk_29 (dk_at dksX0_figure_0 3 rfl rfl)
theorem dX0_figure_4 : decode cX0_figure 4 = .ok (.invokevirtual 218, 3) := dk_182 0 218 (dk_at dksX0_figure_0 4 rfl rfl)
theorem dX0_figure_7 : decode cX0_figure 7 = .ok (.ifCond .eq 26, 3) := dk_153 0 26 (dk_at dksX0_figure_0 7 rfl rfl)
theorem dX0_figure_10 : decode cX0_figure 10 = .ok (.aload_n 0, 1) := dk_42 (dk_at dksX0_figure_0 10 rfl rfl)
theorem dX0_figure_11 : decode cX0_figure 11 = .ok (.aload_n 0, 1) := dk_42 (dk_at dksX0_figure_0 11 rfl rfl)
theorem dX0_figure_12 : decode cX0_figure 12 = .ok (.getfield 17, 3) := dk_180 0 17 (dk_at dksX0_figure_0 12 rfl rfl)
theorem dX0_figure_15 : decode cX0_figure 15 = .ok (.iload_n 1, 1) := dk_27 (dk_at dksX0_figure_0 15 rfl rfl)
theorem dX0_figure_16 : decode cX0_figure 16 = .ok (.aaload, 1) := dk_50 (dk_at dksX0_figure_0 16 rfl rfl)
theorem dX0_figure_17 : decode cX0_figure 17 = .ok (.getfield 222, 3) := dk_180 0 222 (dk_at dksX0_figure_0 17 rfl rfl)
theorem dX0_figure_20 : decode cX0_figure 20 = .ok (.iload_n 2, 1) := dk_28 (dk_at dksX0_figure_0 20 rfl rfl)
theorem dX0_figure_21 : decode cX0_figure 21 = .ok (.aaload, 1) := dk_50 (dk_at dksX0_figure_0 21 rfl rfl)
theorem dX0_figure_22 : decode cX0_figure 22 = .ok (.getfield 226, 3) := dk_180 0 226 (dk_at dksX0_figure_1 0 rfl rfl)
theorem dX0_figure_25 : decode cX0_figure 25 = .ok (.iload_n 3, 1) := dk_29 (dk_at dksX0_figure_1 3 rfl rfl)
theorem dX0_figure_26 : decode cX0_figure 26 = .ok (.iaload, 1) := dk_46 (dk_at dksX0_figure_1 4 rfl rfl)
theorem dX0_figure_27 : decode cX0_figure 27 = .ok (.invokevirtual 215, 3) := dk_182 0 215 (dk_at dksX0_figure_1 5 rfl rfl)
theorem dX0_figure_30 : decode cX0_figure 30 = .ok (.goto 8, 3) := dk_167 0 8 (dk_at dksX0_figure_1 8 rfl rfl)
theorem dX0_figure_33 : decode cX0_figure 33 = .ok (.aload_n 0, 1) := dk_42 (dk_at dksX0_figure_1 11 rfl rfl)
theorem dX0_figure_34 : decode cX0_figure 34 = .ok (.iconst 2, 1) := dk_5 (dk_at dksX0_figure_1 12 rfl rfl)
theorem dX0_figure_35 : decode cX0_figure 35 = .ok (.invokevirtual 169, 3) := dk_182 0 169 (dk_at dksX0_figure_1 13 rfl rfl)
theorem dX0_figure_38 : decode cX0_figure 38 = .ok (.ireturn, 1) := dk_172 (dk_at dksX0_figure_1 16 rfl rfl)
abbrev cX0_isWheel : ByteArray := prog_1_method_12_code
def yX0_isWheel : MethodName := ⟨RX0, "isWheel", "(III)Z"⟩
def dkwX0_isWheel_2 : List UInt8 := [3, 172]
abbrev dktX0_isWheel_2 : List UInt8 := dkwX0_isWheel_2 ++ []
def dkwX0_isWheel_1 : List UInt8 := [162, 0, 24, 29, 155, 0, 20, 29, 42, 180, 0, 17, 27, 50, 180, 0, 201, 162, 0, 7, 4, 167, 0, 4]
abbrev dktX0_isWheel_1 : List UInt8 := dkwX0_isWheel_1 ++ dktX0_isWheel_2
def dkwX0_isWheel_0 : List UInt8 := [42, 27, 182, 0, 196, 153, 0, 41, 28, 155, 0, 37, 28, 42, 180, 0, 17, 27, 50, 180, 0, 199]
abbrev dktX0_isWheel_0 : List UInt8 := dkwX0_isWheel_0 ++ dktX0_isWheel_1
theorem dksX0_isWheel_0 : cX0_isWheel.data.toList.drop 0 = dktX0_isWheel_0 := by decide +kernel
theorem dksX0_isWheel_1 : cX0_isWheel.data.toList.drop 22 = dktX0_isWheel_1 := dk_seg dksX0_isWheel_0 22 rfl rfl
theorem dksX0_isWheel_2 : cX0_isWheel.data.toList.drop 46 = dktX0_isWheel_2 := dk_seg dksX0_isWheel_1 24 rfl rfl
theorem dX0_isWheel_0 : decode cX0_isWheel 0 = .ok (.aload_n 0, 1) := dk_42 (dk_at dksX0_isWheel_0 0 rfl rfl)
theorem dX0_isWheel_1 : decode cX0_isWheel 1 = .ok (.iload_n 1, 1) := dk_27 (dk_at dksX0_isWheel_0 1 rfl rfl)
theorem dX0_isWheel_2 : decode cX0_isWheel 2 = .ok (.invokevirtual 196, 3) := dk_182 0 196 (dk_at dksX0_isWheel_0 2 rfl rfl)
theorem dX0_isWheel_5 : decode cX0_isWheel 5 = .ok (.ifCond .eq 41, 3) := dk_153 0 41 (dk_at dksX0_isWheel_0 5 rfl rfl)
theorem dX0_isWheel_8 : decode cX0_isWheel 8 = .ok (.iload_n 2, 1) := dk_28 (dk_at dksX0_isWheel_0 8 rfl rfl)
theorem dX0_isWheel_9 : decode cX0_isWheel 9 = .ok (.ifCond .lt 37, 3) := dk_155 0 37 (dk_at dksX0_isWheel_0 9 rfl rfl)
theorem dX0_isWheel_12 : decode cX0_isWheel 12 = .ok (.iload_n 2, 1) := dk_28 (dk_at dksX0_isWheel_0 12 rfl rfl)
theorem dX0_isWheel_13 : decode cX0_isWheel 13 = .ok (.aload_n 0, 1) := dk_42 (dk_at dksX0_isWheel_0 13 rfl rfl)
theorem dX0_isWheel_14 : decode cX0_isWheel 14 = .ok (.getfield 17, 3) := dk_180 0 17 (dk_at dksX0_isWheel_0 14 rfl rfl)
theorem dX0_isWheel_17 : decode cX0_isWheel 17 = .ok (.iload_n 1, 1) := dk_27 (dk_at dksX0_isWheel_0 17 rfl rfl)
theorem dX0_isWheel_18 : decode cX0_isWheel 18 = .ok (.aaload, 1) := dk_50 (dk_at dksX0_isWheel_0 18 rfl rfl)
theorem dX0_isWheel_19 : decode cX0_isWheel 19 = .ok (.getfield 199, 3) := dk_180 0 199 (dk_at dksX0_isWheel_0 19 rfl rfl)
theorem dX0_isWheel_22 : decode cX0_isWheel 22 = .ok (.if_icmp .ge 24, 3) := dk_162 0 24 (dk_at dksX0_isWheel_1 0 rfl rfl)
theorem dX0_isWheel_25 : decode cX0_isWheel 25 = .ok (.iload_n 3, 1) := dk_29 (dk_at dksX0_isWheel_1 3 rfl rfl)
theorem dX0_isWheel_26 : decode cX0_isWheel 26 = .ok (.ifCond .lt 20, 3) := dk_155 0 20 (dk_at dksX0_isWheel_1 4 rfl rfl)
theorem dX0_isWheel_29 : decode cX0_isWheel 29 = .ok (.iload_n 3, 1) := dk_29 (dk_at dksX0_isWheel_1 7 rfl rfl)
theorem dX0_isWheel_30 : decode cX0_isWheel 30 = .ok (.aload_n 0, 1) := dk_42 (dk_at dksX0_isWheel_1 8 rfl rfl)
theorem dX0_isWheel_31 : decode cX0_isWheel 31 = .ok (.getfield 17, 3) := dk_180 0 17 (dk_at dksX0_isWheel_1 9 rfl rfl)
theorem dX0_isWheel_34 : decode cX0_isWheel 34 = .ok (.iload_n 1, 1) := dk_27 (dk_at dksX0_isWheel_1 12 rfl rfl)
theorem dX0_isWheel_35 : decode cX0_isWheel 35 = .ok (.aaload, 1) := dk_50 (dk_at dksX0_isWheel_1 13 rfl rfl)
theorem dX0_isWheel_36 : decode cX0_isWheel 36 = .ok (.getfield 201, 3) := dk_180 0 201 (dk_at dksX0_isWheel_1 14 rfl rfl)
theorem dX0_isWheel_39 : decode cX0_isWheel 39 = .ok (.if_icmp .ge 7, 3) := dk_162 0 7 (dk_at dksX0_isWheel_1 17 rfl rfl)
theorem dX0_isWheel_42 : decode cX0_isWheel 42 = .ok (.iconst 1, 1) := dk_4 (dk_at dksX0_isWheel_1 20 rfl rfl)
theorem dX0_isWheel_43 : decode cX0_isWheel 43 = .ok (.goto 4, 3) := dk_167 0 4 (dk_at dksX0_isWheel_1 21 rfl rfl)
theorem dX0_isWheel_46 : decode cX0_isWheel 46 = .ok (.iconst 0, 1) := dk_3 (dk_at dksX0_isWheel_2 0 rfl rfl)
theorem dX0_isWheel_47 : decode cX0_isWheel 47 = .ok (.ireturn, 1) := dk_172 (dk_at dksX0_isWheel_2 1 rfl rfl)
abbrev cX0_isEngine : ByteArray := prog_1_method_11_code
def yX0_isEngine : MethodName := ⟨RX0, "isEngine", "(I)Z"⟩
def dkwX0_isEngine_0 : List UInt8 := [27, 155, 0, 15, 27, 42, 180, 0, 193, 162, 0, 7, 4, 167, 0, 4, 3, 172]
abbrev dktX0_isEngine_0 : List UInt8 := dkwX0_isEngine_0 ++ []
theorem dksX0_isEngine_0 : cX0_isEngine.data.toList.drop 0 = dktX0_isEngine_0 := by decide +kernel
theorem dX0_isEngine_0 : decode cX0_isEngine 0 = .ok (.iload_n 1, 1) := dk_27 (dk_at dksX0_isEngine_0 0 rfl rfl)
theorem dX0_isEngine_1 : decode cX0_isEngine 1 = .ok (.ifCond .lt 15, 3) := dk_155 0 15 (dk_at dksX0_isEngine_0 1 rfl rfl)
theorem dX0_isEngine_4 : decode cX0_isEngine 4 = .ok (.iload_n 1, 1) := dk_27 (dk_at dksX0_isEngine_0 4 rfl rfl)
theorem dX0_isEngine_5 : decode cX0_isEngine 5 = .ok (.aload_n 0, 1) := dk_42 (dk_at dksX0_isEngine_0 5 rfl rfl)
theorem dX0_isEngine_6 : decode cX0_isEngine 6 = .ok (.getfield 193, 3) := dk_180 0 193 (dk_at dksX0_isEngine_0 6 rfl rfl)
theorem dX0_isEngine_9 : decode cX0_isEngine 9 = .ok (.if_icmp .ge 7, 3) := dk_162 0 7 (dk_at dksX0_isEngine_0 9 rfl rfl)
theorem dX0_isEngine_12 : decode cX0_isEngine 12 = .ok (.iconst 1, 1) := dk_4 (dk_at dksX0_isEngine_0 12 rfl rfl)
theorem dX0_isEngine_13 : decode cX0_isEngine 13 = .ok (.goto 4, 3) := dk_167 0 4 (dk_at dksX0_isEngine_0 13 rfl rfl)
theorem dX0_isEngine_16 : decode cX0_isEngine 16 = .ok (.iconst 0, 1) := dk_3 (dk_at dksX0_isEngine_0 16 rfl rfl)
theorem dX0_isEngine_17 : decode cX0_isEngine 17 = .ok (.ireturn, 1) := dk_172 (dk_at dksX0_isEngine_0 17 rfl rfl)
abbrev cX0_put : ByteArray := prog_1_method_15_code
def yX0_put : MethodName := ⟨RX0, "put", "(IIII)Z"⟩
def dkwX0_put_2 : List UInt8 := [50, 180, 0, 222, 28, 50, 180, 0, 226, 29, 21, 4, 79, 42, 3, 182, 0, 152, 172]
abbrev dktX0_put_2 : List UInt8 := dkwX0_put_2 ++ []
def dkwX0_put_1 : List UInt8 := [180, 0, 17, 27, 50, 180, 0, 231, 29, 46, 161, 0, 9, 42, 8, 182, 0, 152, 172, 42, 180, 0, 17, 27]
abbrev dktX0_put_1 : List UInt8 := dkwX0_put_1 ++ dktX0_put_2
def dkwX0_put_0 : List UInt8 := [42, 27, 28, 29, 182, 0, 218, 154, 0, 9, 42, 5, 182, 0, 152, 172, 21, 4, 155, 0, 19, 21, 4, 42]
abbrev dktX0_put_0 : List UInt8 := dkwX0_put_0 ++ dktX0_put_1
theorem dksX0_put_0 : cX0_put.data.toList.drop 0 = dktX0_put_0 := by decide +kernel
theorem dksX0_put_1 : cX0_put.data.toList.drop 24 = dktX0_put_1 := dk_seg dksX0_put_0 24 rfl rfl
theorem dksX0_put_2 : cX0_put.data.toList.drop 48 = dktX0_put_2 := dk_seg dksX0_put_1 24 rfl rfl
theorem dX0_put_0 : decode cX0_put 0 = .ok (.aload_n 0, 1) := dk_42 (dk_at dksX0_put_0 0 rfl rfl)
theorem dX0_put_1 : decode cX0_put 1 = .ok (.iload_n 1, 1) := dk_27 (dk_at dksX0_put_0 1 rfl rfl)
theorem dX0_put_2 : decode cX0_put 2 = .ok (.iload_n 2, 1) := dk_28 (dk_at dksX0_put_0 2 rfl rfl)
theorem dX0_put_3 : decode cX0_put 3 = .ok (.iload_n 3, 1) := dk_29 (dk_at dksX0_put_0 3 rfl rfl)
theorem dX0_put_4 : decode cX0_put 4 = .ok (.invokevirtual 218, 3) := dk_182 0 218 (dk_at dksX0_put_0 4 rfl rfl)
theorem dX0_put_7 : decode cX0_put 7 = .ok (.ifCond .ne 9, 3) := dk_154 0 9 (dk_at dksX0_put_0 7 rfl rfl)
theorem dX0_put_10 : decode cX0_put 10 = .ok (.aload_n 0, 1) := dk_42 (dk_at dksX0_put_0 10 rfl rfl)
theorem dX0_put_11 : decode cX0_put 11 = .ok (.iconst 2, 1) := dk_5 (dk_at dksX0_put_0 11 rfl rfl)
theorem dX0_put_12 : decode cX0_put 12 = .ok (.invokevirtual 152, 3) := dk_182 0 152 (dk_at dksX0_put_0 12 rfl rfl)
theorem dX0_put_15 : decode cX0_put 15 = .ok (.ireturn, 1) := dk_172 (dk_at dksX0_put_0 15 rfl rfl)
theorem dX0_put_16 : decode cX0_put 16 = .ok (.iload 4, 2) := dk_21 4 (dk_at dksX0_put_0 16 rfl rfl)
theorem dX0_put_18 : decode cX0_put 18 = .ok (.ifCond .lt 19, 3) := dk_155 0 19 (dk_at dksX0_put_0 18 rfl rfl)
theorem dX0_put_21 : decode cX0_put 21 = .ok (.iload 4, 2) := dk_21 4 (dk_at dksX0_put_0 21 rfl rfl)
theorem dX0_put_23 : decode cX0_put 23 = .ok (.aload_n 0, 1) := dk_42 (dk_at dksX0_put_0 23 rfl rfl)
theorem dX0_put_24 : decode cX0_put 24 = .ok (.getfield 17, 3) := dk_180 0 17 (dk_at dksX0_put_1 0 rfl rfl)
theorem dX0_put_27 : decode cX0_put 27 = .ok (.iload_n 1, 1) := dk_27 (dk_at dksX0_put_1 3 rfl rfl)
theorem dX0_put_28 : decode cX0_put 28 = .ok (.aaload, 1) := dk_50 (dk_at dksX0_put_1 4 rfl rfl)
theorem dX0_put_29 : decode cX0_put 29 = .ok (.getfield 231, 3) := dk_180 0 231 (dk_at dksX0_put_1 5 rfl rfl)
theorem dX0_put_32 : decode cX0_put 32 = .ok (.iload_n 3, 1) := dk_29 (dk_at dksX0_put_1 8 rfl rfl)
theorem dX0_put_33 : decode cX0_put 33 = .ok (.iaload, 1) := dk_46 (dk_at dksX0_put_1 9 rfl rfl)
theorem dX0_put_34 : decode cX0_put 34 = .ok (.if_icmp .lt 9, 3) := dk_161 0 9 (dk_at dksX0_put_1 10 rfl rfl)
theorem dX0_put_37 : decode cX0_put 37 = .ok (.aload_n 0, 1) := dk_42 (dk_at dksX0_put_1 13 rfl rfl)
theorem dX0_put_38 : decode cX0_put 38 = .ok (.iconst 5, 1) := dk_8 (dk_at dksX0_put_1 14 rfl rfl)
theorem dX0_put_39 : decode cX0_put 39 = .ok (.invokevirtual 152, 3) := dk_182 0 152 (dk_at dksX0_put_1 15 rfl rfl)
theorem dX0_put_42 : decode cX0_put 42 = .ok (.ireturn, 1) := dk_172 (dk_at dksX0_put_1 18 rfl rfl)
theorem dX0_put_43 : decode cX0_put 43 = .ok (.aload_n 0, 1) := dk_42 (dk_at dksX0_put_1 19 rfl rfl)
theorem dX0_put_44 : decode cX0_put 44 = .ok (.getfield 17, 3) := dk_180 0 17 (dk_at dksX0_put_1 20 rfl rfl)
theorem dX0_put_47 : decode cX0_put 47 = .ok (.iload_n 1, 1) := dk_27 (dk_at dksX0_put_1 23 rfl rfl)
theorem dX0_put_48 : decode cX0_put 48 = .ok (.aaload, 1) := dk_50 (dk_at dksX0_put_2 0 rfl rfl)
theorem dX0_put_49 : decode cX0_put 49 = .ok (.getfield 222, 3) := dk_180 0 222 (dk_at dksX0_put_2 1 rfl rfl)
theorem dX0_put_52 : decode cX0_put 52 = .ok (.iload_n 2, 1) := dk_28 (dk_at dksX0_put_2 4 rfl rfl)
theorem dX0_put_53 : decode cX0_put 53 = .ok (.aaload, 1) := dk_50 (dk_at dksX0_put_2 5 rfl rfl)
theorem dX0_put_54 : decode cX0_put 54 = .ok (.getfield 226, 3) := dk_180 0 226 (dk_at dksX0_put_2 6 rfl rfl)
theorem dX0_put_57 : decode cX0_put 57 = .ok (.iload_n 3, 1) := dk_29 (dk_at dksX0_put_2 9 rfl rfl)
theorem dX0_put_58 : decode cX0_put 58 = .ok (.iload 4, 2) := dk_21 4 (dk_at dksX0_put_2 10 rfl rfl)
theorem dX0_put_60 : decode cX0_put 60 = .ok (.iastore, 1) := dk_79 (dk_at dksX0_put_2 12 rfl rfl)
theorem dX0_put_61 : decode cX0_put 61 = .ok (.aload_n 0, 1) := dk_42 (dk_at dksX0_put_2 13 rfl rfl)
theorem dX0_put_62 : decode cX0_put 62 = .ok (.iconst 0, 1) := dk_3 (dk_at dksX0_put_2 14 rfl rfl)
theorem dX0_put_63 : decode cX0_put 63 = .ok (.invokevirtual 152, 3) := dk_182 0 152 (dk_at dksX0_put_2 15 rfl rfl)
theorem dX0_put_66 : decode cX0_put 66 = .ok (.ireturn, 1) := dk_172 (dk_at dksX0_put_2 18 rfl rfl)
abbrev cX0_number : ByteArray := prog_1_method_16_code
def yX0_number : MethodName := ⟨RX0, "number", "(II)J"⟩
def dkwX0_number_1 : List UInt8 := [180, 0, 17, 27, 50, 28, 182, 0, 234, 173]
abbrev dktX0_number_1 : List UInt8 := dkwX0_number_1 ++ []
def dkwX0_number_0 : List UInt8 := [42, 27, 28, 3, 182, 0, 218, 154, 0, 10, 42, 5, 182, 0, 169, 133, 173, 42, 3, 181, 0, 145, 42]
abbrev dktX0_number_0 : List UInt8 := dkwX0_number_0 ++ dktX0_number_1
theorem dksX0_number_0 : cX0_number.data.toList.drop 0 = dktX0_number_0 := by decide +kernel
theorem dksX0_number_1 : cX0_number.data.toList.drop 23 = dktX0_number_1 := dk_seg dksX0_number_0 23 rfl rfl
theorem dX0_number_0 : decode cX0_number 0 = .ok (.aload_n 0, 1) := dk_42 (dk_at dksX0_number_0 0 rfl rfl)
theorem dX0_number_1 : decode cX0_number 1 = .ok (.iload_n 1, 1) := dk_27 (dk_at dksX0_number_0 1 rfl rfl)
theorem dX0_number_2 : decode cX0_number 2 = .ok (.iload_n 2, 1) := dk_28 (dk_at dksX0_number_0 2 rfl rfl)
theorem dX0_number_3 : decode cX0_number 3 = .ok (.iconst 0, 1) := dk_3 (dk_at dksX0_number_0 3 rfl rfl)
theorem dX0_number_4 : decode cX0_number 4 = .ok (.invokevirtual 218, 3) := dk_182 0 218 (dk_at dksX0_number_0 4 rfl rfl)
theorem dX0_number_7 : decode cX0_number 7 = .ok (.ifCond .ne 10, 3) := dk_154 0 10 (dk_at dksX0_number_0 7 rfl rfl)
theorem dX0_number_10 : decode cX0_number 10 = .ok (.aload_n 0, 1) := dk_42 (dk_at dksX0_number_0 10 rfl rfl)
theorem dX0_number_11 : decode cX0_number 11 = .ok (.iconst 2, 1) := dk_5 (dk_at dksX0_number_0 11 rfl rfl)
theorem dX0_number_12 : decode cX0_number 12 = .ok (.invokevirtual 169, 3) := dk_182 0 169 (dk_at dksX0_number_0 12 rfl rfl)
theorem dX0_number_15 : decode cX0_number 15 = .ok (.i2l, 1) := dk_133 (dk_at dksX0_number_0 15 rfl rfl)
theorem dX0_number_16 : decode cX0_number 16 = .ok (.lreturn, 1) := dk_173 (dk_at dksX0_number_0 16 rfl rfl)
theorem dX0_number_17 : decode cX0_number 17 = .ok (.aload_n 0, 1) := dk_42 (dk_at dksX0_number_0 17 rfl rfl)
theorem dX0_number_18 : decode cX0_number 18 = .ok (.iconst 0, 1) := dk_3 (dk_at dksX0_number_0 18 rfl rfl)
theorem dX0_number_19 : decode cX0_number 19 = .ok (.putfield 145, 3) := dk_181 0 145 (dk_at dksX0_number_0 19 rfl rfl)
theorem dX0_number_22 : decode cX0_number 22 = .ok (.aload_n 0, 1) := dk_42 (dk_at dksX0_number_0 22 rfl rfl)
theorem dX0_number_23 : decode cX0_number 23 = .ok (.getfield 17, 3) := dk_180 0 17 (dk_at dksX0_number_1 0 rfl rfl)
theorem dX0_number_26 : decode cX0_number 26 = .ok (.iload_n 1, 1) := dk_27 (dk_at dksX0_number_1 3 rfl rfl)
theorem dX0_number_27 : decode cX0_number 27 = .ok (.aaload, 1) := dk_50 (dk_at dksX0_number_1 4 rfl rfl)
theorem dX0_number_28 : decode cX0_number 28 = .ok (.iload_n 2, 1) := dk_28 (dk_at dksX0_number_1 5 rfl rfl)
theorem dX0_number_29 : decode cX0_number 29 = .ok (.invokevirtual 234, 3) := dk_182 0 234 (dk_at dksX0_number_1 6 rfl rfl)
theorem dX0_number_32 : decode cX0_number 32 = .ok (.lreturn, 1) := dk_173 (dk_at dksX0_number_1 9 rfl rfl)
abbrev cX0_set : ByteArray := prog_1_method_19_code
def yX0_set : MethodName := ⟨RX0, "set", "(III)Z"⟩
def dkwX0_set_10 : List UInt8 := [182, 0, 152, 172]
abbrev dktX0_set_10 : List UInt8 := dkwX0_set_10 ++ []
def dkwX0_set_9 : List UInt8 := [21, 6, 47, 167, 0, 4, 9, 182, 0, 252, 132, 6, 1, 167, 255, 202, 25, 5, 3, 181, 0, 255, 42, 3]
abbrev dktX0_set_9 : List UInt8 := dkwX0_set_9 ++ dktX0_set_10
def dkwX0_set_8 : List UInt8 := [112, 154, 0, 8, 42, 29, 182, 0, 249, 25, 5, 21, 6, 21, 6, 29, 162, 0, 13, 42, 180, 0, 56]
abbrev dktX0_set_8 : List UInt8 := dkwX0_set_8 ++ dktX0_set_9
def dkwX0_set_7 : List UInt8 := [182, 0, 245, 3, 54, 6, 21, 6, 25, 5, 180, 0, 199, 162, 0, 50, 21, 6, 158, 0, 15, 21, 6, 5]
abbrev dktX0_set_7 : List UInt8 := dkwX0_set_7 ++ dktX0_set_8
def dkwX0_set_6 : List UInt8 := [42, 180, 0, 56, 21, 6, 25, 4, 21, 6, 182, 0, 173, 80, 132, 6, 1, 167, 255, 233, 42, 29]
abbrev dktX0_set_6 : List UInt8 := dkwX0_set_6 ++ dktX0_set_7
def dkwX0_set_5 : List UInt8 := [158, 0, 9, 42, 8, 182, 0, 152, 172, 132, 6, 1, 167, 255, 223, 3, 54, 6, 21, 6, 29, 162, 0, 23]
abbrev dktX0_set_5 : List UInt8 := dkwX0_set_5 ++ dktX0_set_6
def dkwX0_set_4 : List UInt8 := [3, 54, 6, 21, 6, 29, 162, 0, 33, 25, 4, 21, 6, 182, 0, 173, 138, 184, 0, 237, 20, 0, 243, 151]
abbrev dktX0_set_4 : List UInt8 := dkwX0_set_4 ++ dktX0_set_5
def dkwX0_set_3 : List UInt8 := [164, 0, 9, 42, 8, 182, 0, 152, 172, 25, 4, 182, 0, 204, 29, 162, 0, 9, 42, 7, 182, 0, 152, 172]
abbrev dktX0_set_3 : List UInt8 := dkwX0_set_3 ++ dktX0_set_4
def dkwX0_set_2 : List UInt8 := [182, 0, 152, 172, 42, 180, 0, 17, 27, 50, 58, 5, 29, 4, 161, 0, 12, 29, 25, 5, 180, 0, 199]
abbrev dktX0_set_2 : List UInt8 := dkwX0_set_2 ++ dktX0_set_3
def dkwX0_set_1 : List UInt8 := [182, 0, 152, 172, 42, 180, 0, 11, 28, 50, 58, 4, 25, 4, 180, 0, 179, 199, 0, 9, 42, 6]
abbrev dktX0_set_1 : List UInt8 := dkwX0_set_1 ++ dktX0_set_2
def dkwX0_set_0 : List UInt8 := [28, 184, 0, 148, 154, 0, 9, 42, 4, 182, 0, 152, 172, 42, 27, 182, 0, 196, 154, 0, 9, 42, 5]
abbrev dktX0_set_0 : List UInt8 := dkwX0_set_0 ++ dktX0_set_1
theorem dksX0_set_0 : cX0_set.data.toList.drop 0 = dktX0_set_0 := by decide +kernel
theorem dksX0_set_1 : cX0_set.data.toList.drop 23 = dktX0_set_1 := dk_seg dksX0_set_0 23 rfl rfl
theorem dksX0_set_2 : cX0_set.data.toList.drop 45 = dktX0_set_2 := dk_seg dksX0_set_1 22 rfl rfl
theorem dksX0_set_3 : cX0_set.data.toList.drop 68 = dktX0_set_3 := dk_seg dksX0_set_2 23 rfl rfl
theorem dksX0_set_4 : cX0_set.data.toList.drop 92 = dktX0_set_4 := dk_seg dksX0_set_3 24 rfl rfl
theorem dksX0_set_5 : cX0_set.data.toList.drop 116 = dktX0_set_5 := dk_seg dksX0_set_4 24 rfl rfl
theorem dksX0_set_6 : cX0_set.data.toList.drop 140 = dktX0_set_6 := dk_seg dksX0_set_5 24 rfl rfl
theorem dksX0_set_7 : cX0_set.data.toList.drop 162 = dktX0_set_7 := dk_seg dksX0_set_6 22 rfl rfl
theorem dksX0_set_8 : cX0_set.data.toList.drop 186 = dktX0_set_8 := dk_seg dksX0_set_7 24 rfl rfl
theorem dksX0_set_9 : cX0_set.data.toList.drop 209 = dktX0_set_9 := dk_seg dksX0_set_8 23 rfl rfl
theorem dksX0_set_10 : cX0_set.data.toList.drop 233 = dktX0_set_10 := dk_seg dksX0_set_9 24 rfl rfl
theorem dX0_set_0 : decode cX0_set 0 = .ok (.iload_n 2, 1) := dk_28 (dk_at dksX0_set_0 0 rfl rfl)
theorem dX0_set_1 : decode cX0_set 1 = .ok (.invokestatic 148, 3) := dk_184 0 148 (dk_at dksX0_set_0 1 rfl rfl)
theorem dX0_set_4 : decode cX0_set 4 = .ok (.ifCond .ne 9, 3) := dk_154 0 9 (dk_at dksX0_set_0 4 rfl rfl)
theorem dX0_set_7 : decode cX0_set 7 = .ok (.aload_n 0, 1) := dk_42 (dk_at dksX0_set_0 7 rfl rfl)
theorem dX0_set_8 : decode cX0_set 8 = .ok (.iconst 1, 1) := dk_4 (dk_at dksX0_set_0 8 rfl rfl)
theorem dX0_set_9 : decode cX0_set 9 = .ok (.invokevirtual 152, 3) := dk_182 0 152 (dk_at dksX0_set_0 9 rfl rfl)
theorem dX0_set_12 : decode cX0_set 12 = .ok (.ireturn, 1) := dk_172 (dk_at dksX0_set_0 12 rfl rfl)
theorem dX0_set_13 : decode cX0_set 13 = .ok (.aload_n 0, 1) := dk_42 (dk_at dksX0_set_0 13 rfl rfl)
theorem dX0_set_14 : decode cX0_set 14 = .ok (.iload_n 1, 1) := dk_27 (dk_at dksX0_set_0 14 rfl rfl)
theorem dX0_set_15 : decode cX0_set 15 = .ok (.invokevirtual 196, 3) := dk_182 0 196 (dk_at dksX0_set_0 15 rfl rfl)
theorem dX0_set_18 : decode cX0_set 18 = .ok (.ifCond .ne 9, 3) := dk_154 0 9 (dk_at dksX0_set_0 18 rfl rfl)
theorem dX0_set_21 : decode cX0_set 21 = .ok (.aload_n 0, 1) := dk_42 (dk_at dksX0_set_0 21 rfl rfl)
theorem dX0_set_22 : decode cX0_set 22 = .ok (.iconst 2, 1) := dk_5 (dk_at dksX0_set_0 22 rfl rfl)
theorem dX0_set_23 : decode cX0_set 23 = .ok (.invokevirtual 152, 3) := dk_182 0 152 (dk_at dksX0_set_1 0 rfl rfl)
theorem dX0_set_26 : decode cX0_set 26 = .ok (.ireturn, 1) := dk_172 (dk_at dksX0_set_1 3 rfl rfl)
theorem dX0_set_27 : decode cX0_set 27 = .ok (.aload_n 0, 1) := dk_42 (dk_at dksX0_set_1 4 rfl rfl)
theorem dX0_set_28 : decode cX0_set 28 = .ok (.getfield 11, 3) := dk_180 0 11 (dk_at dksX0_set_1 5 rfl rfl)
theorem dX0_set_31 : decode cX0_set 31 = .ok (.iload_n 2, 1) := dk_28 (dk_at dksX0_set_1 8 rfl rfl)
theorem dX0_set_32 : decode cX0_set 32 = .ok (.aaload, 1) := dk_50 (dk_at dksX0_set_1 9 rfl rfl)
theorem dX0_set_33 : decode cX0_set 33 = .ok (.astore 4, 2) := dk_58 4 (dk_at dksX0_set_1 10 rfl rfl)
theorem dX0_set_35 : decode cX0_set 35 = .ok (.aload 4, 2) := dk_25 4 (dk_at dksX0_set_1 12 rfl rfl)
theorem dX0_set_37 : decode cX0_set 37 = .ok (.getfield 179, 3) := dk_180 0 179 (dk_at dksX0_set_1 14 rfl rfl)
theorem dX0_set_40 : decode cX0_set 40 = .ok (.ifnonnull 9, 3) := dk_199 0 9 (dk_at dksX0_set_1 17 rfl rfl)
theorem dX0_set_43 : decode cX0_set 43 = .ok (.aload_n 0, 1) := dk_42 (dk_at dksX0_set_1 20 rfl rfl)
theorem dX0_set_44 : decode cX0_set 44 = .ok (.iconst 3, 1) := dk_6 (dk_at dksX0_set_1 21 rfl rfl)
theorem dX0_set_45 : decode cX0_set 45 = .ok (.invokevirtual 152, 3) := dk_182 0 152 (dk_at dksX0_set_2 0 rfl rfl)
theorem dX0_set_48 : decode cX0_set 48 = .ok (.ireturn, 1) := dk_172 (dk_at dksX0_set_2 3 rfl rfl)
theorem dX0_set_49 : decode cX0_set 49 = .ok (.aload_n 0, 1) := dk_42 (dk_at dksX0_set_2 4 rfl rfl)
theorem dX0_set_50 : decode cX0_set 50 = .ok (.getfield 17, 3) := dk_180 0 17 (dk_at dksX0_set_2 5 rfl rfl)
theorem dX0_set_53 : decode cX0_set 53 = .ok (.iload_n 1, 1) := dk_27 (dk_at dksX0_set_2 8 rfl rfl)
theorem dX0_set_54 : decode cX0_set 54 = .ok (.aaload, 1) := dk_50 (dk_at dksX0_set_2 9 rfl rfl)
theorem dX0_set_55 : decode cX0_set 55 = .ok (.astore 5, 2) := dk_58 5 (dk_at dksX0_set_2 10 rfl rfl)
theorem dX0_set_57 : decode cX0_set 57 = .ok (.iload_n 3, 1) := dk_29 (dk_at dksX0_set_2 12 rfl rfl)
theorem dX0_set_58 : decode cX0_set 58 = .ok (.iconst 1, 1) := dk_4 (dk_at dksX0_set_2 13 rfl rfl)
theorem dX0_set_59 : decode cX0_set 59 = .ok (.if_icmp .lt 12, 3) := dk_161 0 12 (dk_at dksX0_set_2 14 rfl rfl)
theorem dX0_set_62 : decode cX0_set 62 = .ok (.iload_n 3, 1) := dk_29 (dk_at dksX0_set_2 17 rfl rfl)
theorem dX0_set_63 : decode cX0_set 63 = .ok (.aload 5, 2) := dk_25 5 (dk_at dksX0_set_2 18 rfl rfl)
theorem dX0_set_65 : decode cX0_set 65 = .ok (.getfield 199, 3) := dk_180 0 199 (dk_at dksX0_set_2 20 rfl rfl)
theorem dX0_set_68 : decode cX0_set 68 = .ok (.if_icmp .le 9, 3) := dk_164 0 9 (dk_at dksX0_set_3 0 rfl rfl)
theorem dX0_set_71 : decode cX0_set 71 = .ok (.aload_n 0, 1) := dk_42 (dk_at dksX0_set_3 3 rfl rfl)
theorem dX0_set_72 : decode cX0_set 72 = .ok (.iconst 5, 1) := dk_8 (dk_at dksX0_set_3 4 rfl rfl)
theorem dX0_set_73 : decode cX0_set 73 = .ok (.invokevirtual 152, 3) := dk_182 0 152 (dk_at dksX0_set_3 5 rfl rfl)
theorem dX0_set_76 : decode cX0_set 76 = .ok (.ireturn, 1) := dk_172 (dk_at dksX0_set_3 8 rfl rfl)
theorem dX0_set_77 : decode cX0_set 77 = .ok (.aload 4, 2) := dk_25 4 (dk_at dksX0_set_3 9 rfl rfl)
theorem dX0_set_79 : decode cX0_set 79 = .ok (.invokevirtual 204, 3) := dk_182 0 204 (dk_at dksX0_set_3 11 rfl rfl)
theorem dX0_set_82 : decode cX0_set 82 = .ok (.iload_n 3, 1) := dk_29 (dk_at dksX0_set_3 14 rfl rfl)
theorem dX0_set_83 : decode cX0_set 83 = .ok (.if_icmp .ge 9, 3) := dk_162 0 9 (dk_at dksX0_set_3 15 rfl rfl)
theorem dX0_set_86 : decode cX0_set 86 = .ok (.aload_n 0, 1) := dk_42 (dk_at dksX0_set_3 18 rfl rfl)
theorem dX0_set_87 : decode cX0_set 87 = .ok (.iconst 4, 1) := dk_7 (dk_at dksX0_set_3 19 rfl rfl)
theorem dX0_set_88 : decode cX0_set 88 = .ok (.invokevirtual 152, 3) := dk_182 0 152 (dk_at dksX0_set_3 20 rfl rfl)
theorem dX0_set_91 : decode cX0_set 91 = .ok (.ireturn, 1) := dk_172 (dk_at dksX0_set_3 23 rfl rfl)
theorem dX0_set_92 : decode cX0_set 92 = .ok (.iconst 0, 1) := dk_3 (dk_at dksX0_set_4 0 rfl rfl)
theorem dX0_set_93 : decode cX0_set 93 = .ok (.istore 6, 2) := dk_54 6 (dk_at dksX0_set_4 1 rfl rfl)
theorem dX0_set_95 : decode cX0_set 95 = .ok (.iload 6, 2) := dk_21 6 (dk_at dksX0_set_4 3 rfl rfl)
theorem dX0_set_97 : decode cX0_set 97 = .ok (.iload_n 3, 1) := dk_29 (dk_at dksX0_set_4 5 rfl rfl)
theorem dX0_set_98 : decode cX0_set 98 = .ok (.if_icmp .ge 33, 3) := dk_162 0 33 (dk_at dksX0_set_4 6 rfl rfl)
theorem dX0_set_101 : decode cX0_set 101 = .ok (.aload 4, 2) := dk_25 4 (dk_at dksX0_set_4 9 rfl rfl)
theorem dX0_set_103 : decode cX0_set 103 = .ok (.iload 6, 2) := dk_21 6 (dk_at dksX0_set_4 11 rfl rfl)
theorem dX0_set_105 : decode cX0_set 105 = .ok (.invokevirtual 173, 3) := dk_182 0 173 (dk_at dksX0_set_4 13 rfl rfl)
theorem dX0_set_108 : decode cX0_set 108 = .ok (.l2d, 1) := dk_138 (dk_at dksX0_set_4 16 rfl rfl)
theorem dX0_set_109 : decode cX0_set 109 = .ok (.invokestatic 237, 3) := dk_184 0 237 (dk_at dksX0_set_4 17 rfl rfl)
theorem dX0_set_112 : decode cX0_set 112 = .ok (.ldc2_w 243, 3) := dk_20 0 243 (dk_at dksX0_set_4 20 rfl rfl)
theorem dX0_set_115 : decode cX0_set 115 = .ok (.dcmp .l, 1) := dk_151 (dk_at dksX0_set_4 23 rfl rfl)
theorem dX0_set_116 : decode cX0_set 116 = .ok (.ifCond .le 9, 3) := dk_158 0 9 (dk_at dksX0_set_5 0 rfl rfl)
theorem dX0_set_119 : decode cX0_set 119 = .ok (.aload_n 0, 1) := dk_42 (dk_at dksX0_set_5 3 rfl rfl)
theorem dX0_set_120 : decode cX0_set 120 = .ok (.iconst 5, 1) := dk_8 (dk_at dksX0_set_5 4 rfl rfl)
theorem dX0_set_121 : decode cX0_set 121 = .ok (.invokevirtual 152, 3) := dk_182 0 152 (dk_at dksX0_set_5 5 rfl rfl)
theorem dX0_set_124 : decode cX0_set 124 = .ok (.ireturn, 1) := dk_172 (dk_at dksX0_set_5 8 rfl rfl)
theorem dX0_set_125 : decode cX0_set 125 = .ok (.iinc 6 1, 3) := dk_132 6 1 (dk_at dksX0_set_5 9 rfl rfl)
theorem dX0_set_128 : decode cX0_set 128 = .ok (.goto (-33), 3) := dk_167 255 223 (dk_at dksX0_set_5 12 rfl rfl)
theorem dX0_set_131 : decode cX0_set 131 = .ok (.iconst 0, 1) := dk_3 (dk_at dksX0_set_5 15 rfl rfl)
theorem dX0_set_132 : decode cX0_set 132 = .ok (.istore 6, 2) := dk_54 6 (dk_at dksX0_set_5 16 rfl rfl)
theorem dX0_set_134 : decode cX0_set 134 = .ok (.iload 6, 2) := dk_21 6 (dk_at dksX0_set_5 18 rfl rfl)
theorem dX0_set_136 : decode cX0_set 136 = .ok (.iload_n 3, 1) := dk_29 (dk_at dksX0_set_5 20 rfl rfl)
theorem dX0_set_137 : decode cX0_set 137 = .ok (.if_icmp .ge 23, 3) := dk_162 0 23 (dk_at dksX0_set_5 21 rfl rfl)
theorem dX0_set_140 : decode cX0_set 140 = .ok (.aload_n 0, 1) := dk_42 (dk_at dksX0_set_6 0 rfl rfl)
theorem dX0_set_141 : decode cX0_set 141 = .ok (.getfield 56, 3) := dk_180 0 56 (dk_at dksX0_set_6 1 rfl rfl)
theorem dX0_set_144 : decode cX0_set 144 = .ok (.iload 6, 2) := dk_21 6 (dk_at dksX0_set_6 4 rfl rfl)
theorem dX0_set_146 : decode cX0_set 146 = .ok (.aload 4, 2) := dk_25 4 (dk_at dksX0_set_6 6 rfl rfl)
theorem dX0_set_148 : decode cX0_set 148 = .ok (.iload 6, 2) := dk_21 6 (dk_at dksX0_set_6 8 rfl rfl)
theorem dX0_set_150 : decode cX0_set 150 = .ok (.invokevirtual 173, 3) := dk_182 0 173 (dk_at dksX0_set_6 10 rfl rfl)
theorem dX0_set_153 : decode cX0_set 153 = .ok (.lastore, 1) := dk_80 (dk_at dksX0_set_6 13 rfl rfl)
theorem dX0_set_154 : decode cX0_set 154 = .ok (.iinc 6 1, 3) := dk_132 6 1 (dk_at dksX0_set_6 14 rfl rfl)
theorem dX0_set_157 : decode cX0_set 157 = .ok (.goto (-23), 3) := dk_167 255 233 (dk_at dksX0_set_6 17 rfl rfl)
theorem dX0_set_160 : decode cX0_set 160 = .ok (.aload_n 0, 1) := dk_42 (dk_at dksX0_set_6 20 rfl rfl)
theorem dX0_set_161 : decode cX0_set 161 = .ok (.iload_n 3, 1) := dk_29 (dk_at dksX0_set_6 21 rfl rfl)
theorem dX0_set_162 : decode cX0_set 162 = .ok (.invokevirtual 245, 3) := dk_182 0 245 (dk_at dksX0_set_7 0 rfl rfl)
theorem dX0_set_165 : decode cX0_set 165 = .ok (.iconst 0, 1) := dk_3 (dk_at dksX0_set_7 3 rfl rfl)
theorem dX0_set_166 : decode cX0_set 166 = .ok (.istore 6, 2) := dk_54 6 (dk_at dksX0_set_7 4 rfl rfl)
theorem dX0_set_168 : decode cX0_set 168 = .ok (.iload 6, 2) := dk_21 6 (dk_at dksX0_set_7 6 rfl rfl)
theorem dX0_set_170 : decode cX0_set 170 = .ok (.aload 5, 2) := dk_25 5 (dk_at dksX0_set_7 8 rfl rfl)
theorem dX0_set_172 : decode cX0_set 172 = .ok (.getfield 199, 3) := dk_180 0 199 (dk_at dksX0_set_7 10 rfl rfl)
theorem dX0_set_175 : decode cX0_set 175 = .ok (.if_icmp .ge 50, 3) := dk_162 0 50 (dk_at dksX0_set_7 13 rfl rfl)
theorem dX0_set_178 : decode cX0_set 178 = .ok (.iload 6, 2) := dk_21 6 (dk_at dksX0_set_7 16 rfl rfl)
theorem dX0_set_180 : decode cX0_set 180 = .ok (.ifCond .le 15, 3) := dk_158 0 15 (dk_at dksX0_set_7 18 rfl rfl)
theorem dX0_set_183 : decode cX0_set 183 = .ok (.iload 6, 2) := dk_21 6 (dk_at dksX0_set_7 21 rfl rfl)
theorem dX0_set_185 : decode cX0_set 185 = .ok (.iconst 2, 1) := dk_5 (dk_at dksX0_set_7 23 rfl rfl)
theorem dX0_set_186 : decode cX0_set 186 = .ok (.irem, 1) := dk_112 (dk_at dksX0_set_8 0 rfl rfl)
theorem dX0_set_187 : decode cX0_set 187 = .ok (.ifCond .ne 8, 3) := dk_154 0 8 (dk_at dksX0_set_8 1 rfl rfl)
theorem dX0_set_190 : decode cX0_set 190 = .ok (.aload_n 0, 1) := dk_42 (dk_at dksX0_set_8 4 rfl rfl)
theorem dX0_set_191 : decode cX0_set 191 = .ok (.iload_n 3, 1) := dk_29 (dk_at dksX0_set_8 5 rfl rfl)
theorem dX0_set_192 : decode cX0_set 192 = .ok (.invokevirtual 249, 3) := dk_182 0 249 (dk_at dksX0_set_8 6 rfl rfl)
theorem dX0_set_195 : decode cX0_set 195 = .ok (.aload 5, 2) := dk_25 5 (dk_at dksX0_set_8 9 rfl rfl)
theorem dX0_set_197 : decode cX0_set 197 = .ok (.iload 6, 2) := dk_21 6 (dk_at dksX0_set_8 11 rfl rfl)
theorem dX0_set_199 : decode cX0_set 199 = .ok (.iload 6, 2) := dk_21 6 (dk_at dksX0_set_8 13 rfl rfl)
theorem dX0_set_201 : decode cX0_set 201 = .ok (.iload_n 3, 1) := dk_29 (dk_at dksX0_set_8 15 rfl rfl)
theorem dX0_set_202 : decode cX0_set 202 = .ok (.if_icmp .ge 13, 3) := dk_162 0 13 (dk_at dksX0_set_8 16 rfl rfl)
theorem dX0_set_205 : decode cX0_set 205 = .ok (.aload_n 0, 1) := dk_42 (dk_at dksX0_set_8 19 rfl rfl)
theorem dX0_set_206 : decode cX0_set 206 = .ok (.getfield 56, 3) := dk_180 0 56 (dk_at dksX0_set_8 20 rfl rfl)
theorem dX0_set_209 : decode cX0_set 209 = .ok (.iload 6, 2) := dk_21 6 (dk_at dksX0_set_9 0 rfl rfl)
theorem dX0_set_211 : decode cX0_set 211 = .ok (.laload, 1) := dk_47 (dk_at dksX0_set_9 2 rfl rfl)
theorem dX0_set_212 : decode cX0_set 212 = .ok (.goto 4, 3) := dk_167 0 4 (dk_at dksX0_set_9 3 rfl rfl)
theorem dX0_set_215 : decode cX0_set 215 = .ok (.lconst 0, 1) := dk_9 (dk_at dksX0_set_9 6 rfl rfl)
theorem dX0_set_216 : decode cX0_set 216 = .ok (.invokevirtual 252, 3) := dk_182 0 252 (dk_at dksX0_set_9 7 rfl rfl)
theorem dX0_set_219 : decode cX0_set 219 = .ok (.iinc 6 1, 3) := dk_132 6 1 (dk_at dksX0_set_9 10 rfl rfl)
theorem dX0_set_222 : decode cX0_set 222 = .ok (.goto (-54), 3) := dk_167 255 202 (dk_at dksX0_set_9 13 rfl rfl)
theorem dX0_set_225 : decode cX0_set 225 = .ok (.aload 5, 2) := dk_25 5 (dk_at dksX0_set_9 16 rfl rfl)
theorem dX0_set_227 : decode cX0_set 227 = .ok (.iconst 0, 1) := dk_3 (dk_at dksX0_set_9 18 rfl rfl)
theorem dX0_set_228 : decode cX0_set 228 = .ok (.putfield 255, 3) := dk_181 0 255 (dk_at dksX0_set_9 19 rfl rfl)
theorem dX0_set_231 : decode cX0_set 231 = .ok (.aload_n 0, 1) := dk_42 (dk_at dksX0_set_9 22 rfl rfl)
theorem dX0_set_232 : decode cX0_set 232 = .ok (.iconst 0, 1) := dk_3 (dk_at dksX0_set_9 23 rfl rfl)
theorem dX0_set_233 : decode cX0_set 233 = .ok (.invokevirtual 152, 3) := dk_182 0 152 (dk_at dksX0_set_10 0 rfl rfl)
theorem dX0_set_236 : decode cX0_set 236 = .ok (.ireturn, 1) := dk_172 (dk_at dksX0_set_10 3 rfl rfl)
abbrev cX0_differences : ByteArray := prog_1_method_17_code
def yX0_differences : MethodName := ⟨RX0, "differences", "(I)V"⟩
def dkwX0_differences_1 : List UInt8 := [180, 0, 56, 29, 4, 100, 47, 101, 80, 132, 3, 255, 167, 255, 231, 132, 2, 1, 167, 255, 216, 177]
abbrev dktX0_differences_1 : List UInt8 := dkwX0_differences_1 ++ []
def dkwX0_differences_0 : List UInt8 := [4, 61, 28, 27, 162, 0, 41, 27, 4, 100, 62, 29, 28, 161, 0, 26, 42, 180, 0, 56, 29, 92, 47, 42]
abbrev dktX0_differences_0 : List UInt8 := dkwX0_differences_0 ++ dktX0_differences_1
theorem dksX0_differences_0 : cX0_differences.data.toList.drop 0 = dktX0_differences_0 := by decide +kernel
theorem dksX0_differences_1 : cX0_differences.data.toList.drop 24 = dktX0_differences_1 := dk_seg dksX0_differences_0 24 rfl rfl
theorem dX0_differences_0 : decode cX0_differences 0 = .ok (.iconst 1, 1) := dk_4 (dk_at dksX0_differences_0 0 rfl rfl)
theorem dX0_differences_1 : decode cX0_differences 1 = .ok (.istore_n 2, 1) := dk_61 (dk_at dksX0_differences_0 1 rfl rfl)
theorem dX0_differences_2 : decode cX0_differences 2 = .ok (.iload_n 2, 1) := dk_28 (dk_at dksX0_differences_0 2 rfl rfl)
theorem dX0_differences_3 : decode cX0_differences 3 = .ok (.iload_n 1, 1) := dk_27 (dk_at dksX0_differences_0 3 rfl rfl)
theorem dX0_differences_4 : decode cX0_differences 4 = .ok (.if_icmp .ge 41, 3) := dk_162 0 41 (dk_at dksX0_differences_0 4 rfl rfl)
theorem dX0_differences_7 : decode cX0_differences 7 = .ok (.iload_n 1, 1) := dk_27 (dk_at dksX0_differences_0 7 rfl rfl)
theorem dX0_differences_8 : decode cX0_differences 8 = .ok (.iconst 1, 1) := dk_4 (dk_at dksX0_differences_0 8 rfl rfl)
theorem dX0_differences_9 : decode cX0_differences 9 = .ok (.isub, 1) := dk_100 (dk_at dksX0_differences_0 9 rfl rfl)
theorem dX0_differences_10 : decode cX0_differences 10 = .ok (.istore_n 3, 1) := dk_62 (dk_at dksX0_differences_0 10 rfl rfl)
theorem dX0_differences_11 : decode cX0_differences 11 = .ok (.iload_n 3, 1) := dk_29 (dk_at dksX0_differences_0 11 rfl rfl)
theorem dX0_differences_12 : decode cX0_differences 12 = .ok (.iload_n 2, 1) := dk_28 (dk_at dksX0_differences_0 12 rfl rfl)
theorem dX0_differences_13 : decode cX0_differences 13 = .ok (.if_icmp .lt 26, 3) := dk_161 0 26 (dk_at dksX0_differences_0 13 rfl rfl)
theorem dX0_differences_16 : decode cX0_differences 16 = .ok (.aload_n 0, 1) := dk_42 (dk_at dksX0_differences_0 16 rfl rfl)
theorem dX0_differences_17 : decode cX0_differences 17 = .ok (.getfield 56, 3) := dk_180 0 56 (dk_at dksX0_differences_0 17 rfl rfl)
theorem dX0_differences_20 : decode cX0_differences 20 = .ok (.iload_n 3, 1) := dk_29 (dk_at dksX0_differences_0 20 rfl rfl)
theorem dX0_differences_21 : decode cX0_differences 21 = .ok (.dup2, 1) := dk_92 (dk_at dksX0_differences_0 21 rfl rfl)
theorem dX0_differences_22 : decode cX0_differences 22 = .ok (.laload, 1) := dk_47 (dk_at dksX0_differences_0 22 rfl rfl)
theorem dX0_differences_23 : decode cX0_differences 23 = .ok (.aload_n 0, 1) := dk_42 (dk_at dksX0_differences_0 23 rfl rfl)
theorem dX0_differences_24 : decode cX0_differences 24 = .ok (.getfield 56, 3) := dk_180 0 56 (dk_at dksX0_differences_1 0 rfl rfl)
theorem dX0_differences_27 : decode cX0_differences 27 = .ok (.iload_n 3, 1) := dk_29 (dk_at dksX0_differences_1 3 rfl rfl)
theorem dX0_differences_28 : decode cX0_differences 28 = .ok (.iconst 1, 1) := dk_4 (dk_at dksX0_differences_1 4 rfl rfl)
theorem dX0_differences_29 : decode cX0_differences 29 = .ok (.isub, 1) := dk_100 (dk_at dksX0_differences_1 5 rfl rfl)
theorem dX0_differences_30 : decode cX0_differences 30 = .ok (.laload, 1) := dk_47 (dk_at dksX0_differences_1 6 rfl rfl)
theorem dX0_differences_31 : decode cX0_differences 31 = .ok (.lsub, 1) := dk_101 (dk_at dksX0_differences_1 7 rfl rfl)
theorem dX0_differences_32 : decode cX0_differences 32 = .ok (.lastore, 1) := dk_80 (dk_at dksX0_differences_1 8 rfl rfl)
theorem dX0_differences_33 : decode cX0_differences 33 = .ok (.iinc 3 (-1), 3) := dk_132 3 255 (dk_at dksX0_differences_1 9 rfl rfl)
theorem dX0_differences_36 : decode cX0_differences 36 = .ok (.goto (-25), 3) := dk_167 255 231 (dk_at dksX0_differences_1 12 rfl rfl)
theorem dX0_differences_39 : decode cX0_differences 39 = .ok (.iinc 2 1, 3) := dk_132 2 1 (dk_at dksX0_differences_1 15 rfl rfl)
theorem dX0_differences_42 : decode cX0_differences 42 = .ok (.goto (-40), 3) := dk_167 255 216 (dk_at dksX0_differences_1 18 rfl rfl)
theorem dX0_differences_45 : decode cX0_differences 45 = .ok (.return_, 1) := dk_177 (dk_at dksX0_differences_1 21 rfl rfl)
abbrev cX0_steps : ByteArray := prog_1_method_18_code
def yX0_steps : MethodName := ⟨RX0, "steps", "(I)V"⟩
def dkwX0_steps_1 : List UInt8 := [80, 132, 2, 255, 167, 255, 232, 177]
abbrev dktX0_steps_1 : List UInt8 := dkwX0_steps_1 ++ []
def dkwX0_steps_0 : List UInt8 := [27, 5, 100, 61, 28, 155, 0, 26, 42, 180, 0, 56, 28, 92, 47, 42, 180, 0, 56, 28, 4, 96, 47, 101]
abbrev dktX0_steps_0 : List UInt8 := dkwX0_steps_0 ++ dktX0_steps_1
theorem dksX0_steps_0 : cX0_steps.data.toList.drop 0 = dktX0_steps_0 := by decide +kernel
theorem dksX0_steps_1 : cX0_steps.data.toList.drop 24 = dktX0_steps_1 := dk_seg dksX0_steps_0 24 rfl rfl
theorem dX0_steps_0 : decode cX0_steps 0 = .ok (.iload_n 1, 1) := dk_27 (dk_at dksX0_steps_0 0 rfl rfl)
theorem dX0_steps_1 : decode cX0_steps 1 = .ok (.iconst 2, 1) := dk_5 (dk_at dksX0_steps_0 1 rfl rfl)
theorem dX0_steps_2 : decode cX0_steps 2 = .ok (.isub, 1) := dk_100 (dk_at dksX0_steps_0 2 rfl rfl)
theorem dX0_steps_3 : decode cX0_steps 3 = .ok (.istore_n 2, 1) := dk_61 (dk_at dksX0_steps_0 3 rfl rfl)
theorem dX0_steps_4 : decode cX0_steps 4 = .ok (.iload_n 2, 1) := dk_28 (dk_at dksX0_steps_0 4 rfl rfl)
theorem dX0_steps_5 : decode cX0_steps 5 = .ok (.ifCond .lt 26, 3) := dk_155 0 26 (dk_at dksX0_steps_0 5 rfl rfl)
theorem dX0_steps_8 : decode cX0_steps 8 = .ok (.aload_n 0, 1) := dk_42 (dk_at dksX0_steps_0 8 rfl rfl)
theorem dX0_steps_9 : decode cX0_steps 9 = .ok (.getfield 56, 3) := dk_180 0 56 (dk_at dksX0_steps_0 9 rfl rfl)
theorem dX0_steps_12 : decode cX0_steps 12 = .ok (.iload_n 2, 1) := dk_28 (dk_at dksX0_steps_0 12 rfl rfl)
theorem dX0_steps_13 : decode cX0_steps 13 = .ok (.dup2, 1) := dk_92 (dk_at dksX0_steps_0 13 rfl rfl)
theorem dX0_steps_14 : decode cX0_steps 14 = .ok (.laload, 1) := dk_47 (dk_at dksX0_steps_0 14 rfl rfl)
theorem dX0_steps_15 : decode cX0_steps 15 = .ok (.aload_n 0, 1) := dk_42 (dk_at dksX0_steps_0 15 rfl rfl)
theorem dX0_steps_16 : decode cX0_steps 16 = .ok (.getfield 56, 3) := dk_180 0 56 (dk_at dksX0_steps_0 16 rfl rfl)
theorem dX0_steps_19 : decode cX0_steps 19 = .ok (.iload_n 2, 1) := dk_28 (dk_at dksX0_steps_0 19 rfl rfl)
theorem dX0_steps_20 : decode cX0_steps 20 = .ok (.iconst 1, 1) := dk_4 (dk_at dksX0_steps_0 20 rfl rfl)
theorem dX0_steps_21 : decode cX0_steps 21 = .ok (.iadd, 1) := dk_96 (dk_at dksX0_steps_0 21 rfl rfl)
theorem dX0_steps_22 : decode cX0_steps 22 = .ok (.laload, 1) := dk_47 (dk_at dksX0_steps_0 22 rfl rfl)
theorem dX0_steps_23 : decode cX0_steps 23 = .ok (.lsub, 1) := dk_101 (dk_at dksX0_steps_0 23 rfl rfl)
theorem dX0_steps_24 : decode cX0_steps 24 = .ok (.lastore, 1) := dk_80 (dk_at dksX0_steps_1 0 rfl rfl)
theorem dX0_steps_25 : decode cX0_steps 25 = .ok (.iinc 2 (-1), 3) := dk_132 2 255 (dk_at dksX0_steps_1 1 rfl rfl)
theorem dX0_steps_28 : decode cX0_steps 28 = .ok (.goto (-24), 3) := dk_167 255 232 (dk_at dksX0_steps_1 4 rfl rfl)
theorem dX0_steps_31 : decode cX0_steps 31 = .ok (.return_, 1) := dk_177 (dk_at dksX0_steps_1 7 rfl rfl)
abbrev cX0_mishap : ByteArray := prog_1_method_20_code
def yX0_mishap : MethodName := ⟨RX0, "mishap", "(IIIII)Z"⟩
def dkwX0_mishap_4 : List UInt8 := [182, 1, 5, 42, 3, 182, 0, 152, 172]
abbrev dktX0_mishap_4 : List UInt8 := dkwX0_mishap_4 ++ []
def dkwX0_mishap_3 : List UInt8 := [16, 20, 160, 0, 10, 42, 16, 7, 182, 0, 152, 172, 42, 180, 0, 17, 27, 50, 28, 29, 21, 4, 21, 5]
abbrev dktX0_mishap_3 : List UInt8 := dkwX0_mishap_3 ++ dktX0_mishap_4
def dkwX0_mishap_2 : List UInt8 := [155, 0, 9, 21, 5, 5, 164, 0, 9, 42, 8, 182, 0, 152, 172, 42, 180, 0, 17, 27, 50, 180, 1, 2]
abbrev dktX0_mishap_2 : List UInt8 := dkwX0_mishap_2 ++ dktX0_mishap_3
def dkwX0_mishap_1 : List UInt8 := [160, 0, 9, 42, 5, 182, 0, 152, 172, 28, 4, 161, 0, 21, 28, 17, 3, 232, 163, 0, 14, 21, 5]
abbrev dktX0_mishap_1 : List UInt8 := dkwX0_mishap_1 ++ dktX0_mishap_2
def dkwX0_mishap_0 : List UInt8 := [42, 27, 29, 21, 4, 182, 0, 218, 153, 0, 18, 29, 42, 180, 0, 17, 27, 50, 180, 0, 199, 4, 100]
abbrev dktX0_mishap_0 : List UInt8 := dkwX0_mishap_0 ++ dktX0_mishap_1
theorem dksX0_mishap_0 : cX0_mishap.data.toList.drop 0 = dktX0_mishap_0 := by decide +kernel
theorem dksX0_mishap_1 : cX0_mishap.data.toList.drop 23 = dktX0_mishap_1 := dk_seg dksX0_mishap_0 23 rfl rfl
theorem dksX0_mishap_2 : cX0_mishap.data.toList.drop 46 = dktX0_mishap_2 := dk_seg dksX0_mishap_1 23 rfl rfl
theorem dksX0_mishap_3 : cX0_mishap.data.toList.drop 70 = dktX0_mishap_3 := dk_seg dksX0_mishap_2 24 rfl rfl
theorem dksX0_mishap_4 : cX0_mishap.data.toList.drop 94 = dktX0_mishap_4 := dk_seg dksX0_mishap_3 24 rfl rfl
theorem dX0_mishap_0 : decode cX0_mishap 0 = .ok (.aload_n 0, 1) := dk_42 (dk_at dksX0_mishap_0 0 rfl rfl)
theorem dX0_mishap_1 : decode cX0_mishap 1 = .ok (.iload_n 1, 1) := dk_27 (dk_at dksX0_mishap_0 1 rfl rfl)
theorem dX0_mishap_2 : decode cX0_mishap 2 = .ok (.iload_n 3, 1) := dk_29 (dk_at dksX0_mishap_0 2 rfl rfl)
theorem dX0_mishap_3 : decode cX0_mishap 3 = .ok (.iload 4, 2) := dk_21 4 (dk_at dksX0_mishap_0 3 rfl rfl)
theorem dX0_mishap_5 : decode cX0_mishap 5 = .ok (.invokevirtual 218, 3) := dk_182 0 218 (dk_at dksX0_mishap_0 5 rfl rfl)
theorem dX0_mishap_8 : decode cX0_mishap 8 = .ok (.ifCond .eq 18, 3) := dk_153 0 18 (dk_at dksX0_mishap_0 8 rfl rfl)
theorem dX0_mishap_11 : decode cX0_mishap 11 = .ok (.iload_n 3, 1) := dk_29 (dk_at dksX0_mishap_0 11 rfl rfl)
theorem dX0_mishap_12 : decode cX0_mishap 12 = .ok (.aload_n 0, 1) := dk_42 (dk_at dksX0_mishap_0 12 rfl rfl)
theorem dX0_mishap_13 : decode cX0_mishap 13 = .ok (.getfield 17, 3) := dk_180 0 17 (dk_at dksX0_mishap_0 13 rfl rfl)
theorem dX0_mishap_16 : decode cX0_mishap 16 = .ok (.iload_n 1, 1) := dk_27 (dk_at dksX0_mishap_0 16 rfl rfl)
theorem dX0_mishap_17 : decode cX0_mishap 17 = .ok (.aaload, 1) := dk_50 (dk_at dksX0_mishap_0 17 rfl rfl)
theorem dX0_mishap_18 : decode cX0_mishap 18 = .ok (.getfield 199, 3) := dk_180 0 199 (dk_at dksX0_mishap_0 18 rfl rfl)
theorem dX0_mishap_21 : decode cX0_mishap 21 = .ok (.iconst 1, 1) := dk_4 (dk_at dksX0_mishap_0 21 rfl rfl)
theorem dX0_mishap_22 : decode cX0_mishap 22 = .ok (.isub, 1) := dk_100 (dk_at dksX0_mishap_0 22 rfl rfl)
theorem dX0_mishap_23 : decode cX0_mishap 23 = .ok (.if_icmp .ne 9, 3) := dk_160 0 9 (dk_at dksX0_mishap_1 0 rfl rfl)
theorem dX0_mishap_26 : decode cX0_mishap 26 = .ok (.aload_n 0, 1) := dk_42 (dk_at dksX0_mishap_1 3 rfl rfl)
theorem dX0_mishap_27 : decode cX0_mishap 27 = .ok (.iconst 2, 1) := dk_5 (dk_at dksX0_mishap_1 4 rfl rfl)
theorem dX0_mishap_28 : decode cX0_mishap 28 = .ok (.invokevirtual 152, 3) := dk_182 0 152 (dk_at dksX0_mishap_1 5 rfl rfl)
theorem dX0_mishap_31 : decode cX0_mishap 31 = .ok (.ireturn, 1) := dk_172 (dk_at dksX0_mishap_1 8 rfl rfl)
theorem dX0_mishap_32 : decode cX0_mishap 32 = .ok (.iload_n 2, 1) := dk_28 (dk_at dksX0_mishap_1 9 rfl rfl)
theorem dX0_mishap_33 : decode cX0_mishap 33 = .ok (.iconst 1, 1) := dk_4 (dk_at dksX0_mishap_1 10 rfl rfl)
theorem dX0_mishap_34 : decode cX0_mishap 34 = .ok (.if_icmp .lt 21, 3) := dk_161 0 21 (dk_at dksX0_mishap_1 11 rfl rfl)
theorem dX0_mishap_37 : decode cX0_mishap 37 = .ok (.iload_n 2, 1) := dk_28 (dk_at dksX0_mishap_1 14 rfl rfl)
theorem dX0_mishap_38 : decode cX0_mishap 38 = .ok (.sipush 1000, 3) := dk_17 3 232 (dk_at dksX0_mishap_1 15 rfl rfl)
theorem dX0_mishap_41 : decode cX0_mishap 41 = .ok (.if_icmp .gt 14, 3) := dk_163 0 14 (dk_at dksX0_mishap_1 18 rfl rfl)
theorem dX0_mishap_44 : decode cX0_mishap 44 = .ok (.iload 5, 2) := dk_21 5 (dk_at dksX0_mishap_1 21 rfl rfl)
theorem dX0_mishap_46 : decode cX0_mishap 46 = .ok (.ifCond .lt 9, 3) := dk_155 0 9 (dk_at dksX0_mishap_2 0 rfl rfl)
theorem dX0_mishap_49 : decode cX0_mishap 49 = .ok (.iload 5, 2) := dk_21 5 (dk_at dksX0_mishap_2 3 rfl rfl)
theorem dX0_mishap_51 : decode cX0_mishap 51 = .ok (.iconst 2, 1) := dk_5 (dk_at dksX0_mishap_2 5 rfl rfl)
theorem dX0_mishap_52 : decode cX0_mishap 52 = .ok (.if_icmp .le 9, 3) := dk_164 0 9 (dk_at dksX0_mishap_2 6 rfl rfl)
theorem dX0_mishap_55 : decode cX0_mishap 55 = .ok (.aload_n 0, 1) := dk_42 (dk_at dksX0_mishap_2 9 rfl rfl)
theorem dX0_mishap_56 : decode cX0_mishap 56 = .ok (.iconst 5, 1) := dk_8 (dk_at dksX0_mishap_2 10 rfl rfl)
theorem dX0_mishap_57 : decode cX0_mishap 57 = .ok (.invokevirtual 152, 3) := dk_182 0 152 (dk_at dksX0_mishap_2 11 rfl rfl)
theorem dX0_mishap_60 : decode cX0_mishap 60 = .ok (.ireturn, 1) := dk_172 (dk_at dksX0_mishap_2 14 rfl rfl)
theorem dX0_mishap_61 : decode cX0_mishap 61 = .ok (.aload_n 0, 1) := dk_42 (dk_at dksX0_mishap_2 15 rfl rfl)
theorem dX0_mishap_62 : decode cX0_mishap 62 = .ok (.getfield 17, 3) := dk_180 0 17 (dk_at dksX0_mishap_2 16 rfl rfl)
theorem dX0_mishap_65 : decode cX0_mishap 65 = .ok (.iload_n 1, 1) := dk_27 (dk_at dksX0_mishap_2 19 rfl rfl)
theorem dX0_mishap_66 : decode cX0_mishap 66 = .ok (.aaload, 1) := dk_50 (dk_at dksX0_mishap_2 20 rfl rfl)
theorem dX0_mishap_67 : decode cX0_mishap 67 = .ok (.getfield 258, 3) := dk_180 1 2 (dk_at dksX0_mishap_2 21 rfl rfl)
theorem dX0_mishap_70 : decode cX0_mishap 70 = .ok (.bipush 20, 2) := dk_16 20 (dk_at dksX0_mishap_3 0 rfl rfl)
theorem dX0_mishap_72 : decode cX0_mishap 72 = .ok (.if_icmp .ne 10, 3) := dk_160 0 10 (dk_at dksX0_mishap_3 2 rfl rfl)
theorem dX0_mishap_75 : decode cX0_mishap 75 = .ok (.aload_n 0, 1) := dk_42 (dk_at dksX0_mishap_3 5 rfl rfl)
theorem dX0_mishap_76 : decode cX0_mishap 76 = .ok (.bipush 7, 2) := dk_16 7 (dk_at dksX0_mishap_3 6 rfl rfl)
theorem dX0_mishap_78 : decode cX0_mishap 78 = .ok (.invokevirtual 152, 3) := dk_182 0 152 (dk_at dksX0_mishap_3 8 rfl rfl)
theorem dX0_mishap_81 : decode cX0_mishap 81 = .ok (.ireturn, 1) := dk_172 (dk_at dksX0_mishap_3 11 rfl rfl)
theorem dX0_mishap_82 : decode cX0_mishap 82 = .ok (.aload_n 0, 1) := dk_42 (dk_at dksX0_mishap_3 12 rfl rfl)
theorem dX0_mishap_83 : decode cX0_mishap 83 = .ok (.getfield 17, 3) := dk_180 0 17 (dk_at dksX0_mishap_3 13 rfl rfl)
theorem dX0_mishap_86 : decode cX0_mishap 86 = .ok (.iload_n 1, 1) := dk_27 (dk_at dksX0_mishap_3 16 rfl rfl)
theorem dX0_mishap_87 : decode cX0_mishap 87 = .ok (.aaload, 1) := dk_50 (dk_at dksX0_mishap_3 17 rfl rfl)
theorem dX0_mishap_88 : decode cX0_mishap 88 = .ok (.iload_n 2, 1) := dk_28 (dk_at dksX0_mishap_3 18 rfl rfl)
theorem dX0_mishap_89 : decode cX0_mishap 89 = .ok (.iload_n 3, 1) := dk_29 (dk_at dksX0_mishap_3 19 rfl rfl)
theorem dX0_mishap_90 : decode cX0_mishap 90 = .ok (.iload 4, 2) := dk_21 4 (dk_at dksX0_mishap_3 20 rfl rfl)
theorem dX0_mishap_92 : decode cX0_mishap 92 = .ok (.iload 5, 2) := dk_21 5 (dk_at dksX0_mishap_3 22 rfl rfl)
theorem dX0_mishap_94 : decode cX0_mishap 94 = .ok (.invokevirtual 261, 3) := dk_182 1 5 (dk_at dksX0_mishap_4 0 rfl rfl)
theorem dX0_mishap_97 : decode cX0_mishap 97 = .ok (.aload_n 0, 1) := dk_42 (dk_at dksX0_mishap_4 3 rfl rfl)
theorem dX0_mishap_98 : decode cX0_mishap 98 = .ok (.iconst 0, 1) := dk_3 (dk_at dksX0_mishap_4 4 rfl rfl)
theorem dX0_mishap_99 : decode cX0_mishap 99 = .ok (.invokevirtual 152, 3) := dk_182 0 152 (dk_at dksX0_mishap_4 5 rfl rfl)
theorem dX0_mishap_102 : decode cX0_mishap 102 = .ok (.ireturn, 1) := dk_172 (dk_at dksX0_mishap_4 8 rfl rfl)
abbrev cX0_mend : ByteArray := prog_1_method_21_code
def yX0_mend : MethodName := ⟨RX0, "mend", "(I)Z"⟩
def dkwX0_mend_1 : List UInt8 := [42, 3, 182, 0, 152, 172]
abbrev dktX0_mend_1 : List UInt8 := dkwX0_mend_1 ++ []
def dkwX0_mend_0 : List UInt8 := [42, 27, 182, 0, 196, 154, 0, 9, 42, 5, 182, 0, 152, 172, 42, 180, 0, 17, 27, 50, 3, 181, 1, 2]
abbrev dktX0_mend_0 : List UInt8 := dkwX0_mend_0 ++ dktX0_mend_1
theorem dksX0_mend_0 : cX0_mend.data.toList.drop 0 = dktX0_mend_0 := by decide +kernel
theorem dksX0_mend_1 : cX0_mend.data.toList.drop 24 = dktX0_mend_1 := dk_seg dksX0_mend_0 24 rfl rfl
theorem dX0_mend_0 : decode cX0_mend 0 = .ok (.aload_n 0, 1) := dk_42 (dk_at dksX0_mend_0 0 rfl rfl)
theorem dX0_mend_1 : decode cX0_mend 1 = .ok (.iload_n 1, 1) := dk_27 (dk_at dksX0_mend_0 1 rfl rfl)
theorem dX0_mend_2 : decode cX0_mend 2 = .ok (.invokevirtual 196, 3) := dk_182 0 196 (dk_at dksX0_mend_0 2 rfl rfl)
theorem dX0_mend_5 : decode cX0_mend 5 = .ok (.ifCond .ne 9, 3) := dk_154 0 9 (dk_at dksX0_mend_0 5 rfl rfl)
theorem dX0_mend_8 : decode cX0_mend 8 = .ok (.aload_n 0, 1) := dk_42 (dk_at dksX0_mend_0 8 rfl rfl)
theorem dX0_mend_9 : decode cX0_mend 9 = .ok (.iconst 2, 1) := dk_5 (dk_at dksX0_mend_0 9 rfl rfl)
theorem dX0_mend_10 : decode cX0_mend 10 = .ok (.invokevirtual 152, 3) := dk_182 0 152 (dk_at dksX0_mend_0 10 rfl rfl)
theorem dX0_mend_13 : decode cX0_mend 13 = .ok (.ireturn, 1) := dk_172 (dk_at dksX0_mend_0 13 rfl rfl)
theorem dX0_mend_14 : decode cX0_mend 14 = .ok (.aload_n 0, 1) := dk_42 (dk_at dksX0_mend_0 14 rfl rfl)
theorem dX0_mend_15 : decode cX0_mend 15 = .ok (.getfield 17, 3) := dk_180 0 17 (dk_at dksX0_mend_0 15 rfl rfl)
theorem dX0_mend_18 : decode cX0_mend 18 = .ok (.iload_n 1, 1) := dk_27 (dk_at dksX0_mend_0 18 rfl rfl)
theorem dX0_mend_19 : decode cX0_mend 19 = .ok (.aaload, 1) := dk_50 (dk_at dksX0_mend_0 19 rfl rfl)
theorem dX0_mend_20 : decode cX0_mend 20 = .ok (.iconst 0, 1) := dk_3 (dk_at dksX0_mend_0 20 rfl rfl)
theorem dX0_mend_21 : decode cX0_mend 21 = .ok (.putfield 258, 3) := dk_181 1 2 (dk_at dksX0_mend_0 21 rfl rfl)
theorem dX0_mend_24 : decode cX0_mend 24 = .ok (.aload_n 0, 1) := dk_42 (dk_at dksX0_mend_1 0 rfl rfl)
theorem dX0_mend_25 : decode cX0_mend 25 = .ok (.iconst 0, 1) := dk_3 (dk_at dksX0_mend_1 1 rfl rfl)
theorem dX0_mend_26 : decode cX0_mend 26 = .ok (.invokevirtual 152, 3) := dk_182 0 152 (dk_at dksX0_mend_1 2 rfl rfl)
theorem dX0_mend_29 : decode cX0_mend 29 = .ok (.ireturn, 1) := dk_172 (dk_at dksX0_mend_1 5 rfl rfl)
abbrev cX0_turn : ByteArray := prog_1_method_22_code
def yX0_turn : MethodName := ⟨RX0, "turn", "(II)I"⟩
def dkwX0_turn_3 : List UInt8 := [182, 1, 9, 132, 4, 1, 167, 255, 243, 42, 45, 180, 0, 255, 182, 0, 215, 172]
abbrev dktX0_turn_3 : List UInt8 := dkwX0_turn_3 ++ []
def dkwX0_turn_2 : List UInt8 := [17, 3, 232, 164, 0, 10, 42, 16, 9, 182, 0, 169, 172, 3, 54, 4, 21, 4, 28, 162, 0, 13, 45]
abbrev dktX0_turn_2 : List UInt8 := dkwX0_turn_2 ++ dktX0_turn_3
def dkwX0_turn_1 : List UInt8 := [164, 0, 9, 42, 8, 182, 0, 169, 172, 42, 180, 0, 17, 27, 50, 78, 45, 180, 0, 255, 28, 96]
abbrev dktX0_turn_1 : List UInt8 := dkwX0_turn_1 ++ dktX0_turn_2
def dkwX0_turn_0 : List UInt8 := [42, 27, 182, 0, 196, 154, 0, 9, 42, 5, 182, 0, 169, 172, 28, 4, 161, 0, 10, 28, 17, 0, 200]
abbrev dktX0_turn_0 : List UInt8 := dkwX0_turn_0 ++ dktX0_turn_1
theorem dksX0_turn_0 : cX0_turn.data.toList.drop 0 = dktX0_turn_0 := by decide +kernel
theorem dksX0_turn_1 : cX0_turn.data.toList.drop 23 = dktX0_turn_1 := dk_seg dksX0_turn_0 23 rfl rfl
theorem dksX0_turn_2 : cX0_turn.data.toList.drop 45 = dktX0_turn_2 := dk_seg dksX0_turn_1 22 rfl rfl
theorem dksX0_turn_3 : cX0_turn.data.toList.drop 68 = dktX0_turn_3 := dk_seg dksX0_turn_2 23 rfl rfl
theorem dX0_turn_0 : decode cX0_turn 0 = .ok (.aload_n 0, 1) := dk_42 (dk_at dksX0_turn_0 0 rfl rfl)
theorem dX0_turn_1 : decode cX0_turn 1 = .ok (.iload_n 1, 1) := dk_27 (dk_at dksX0_turn_0 1 rfl rfl)
theorem dX0_turn_2 : decode cX0_turn 2 = .ok (.invokevirtual 196, 3) := dk_182 0 196 (dk_at dksX0_turn_0 2 rfl rfl)
theorem dX0_turn_5 : decode cX0_turn 5 = .ok (.ifCond .ne 9, 3) := dk_154 0 9 (dk_at dksX0_turn_0 5 rfl rfl)
theorem dX0_turn_8 : decode cX0_turn 8 = .ok (.aload_n 0, 1) := dk_42 (dk_at dksX0_turn_0 8 rfl rfl)
theorem dX0_turn_9 : decode cX0_turn 9 = .ok (.iconst 2, 1) := dk_5 (dk_at dksX0_turn_0 9 rfl rfl)
theorem dX0_turn_10 : decode cX0_turn 10 = .ok (.invokevirtual 169, 3) := dk_182 0 169 (dk_at dksX0_turn_0 10 rfl rfl)
theorem dX0_turn_13 : decode cX0_turn 13 = .ok (.ireturn, 1) := dk_172 (dk_at dksX0_turn_0 13 rfl rfl)
theorem dX0_turn_14 : decode cX0_turn 14 = .ok (.iload_n 2, 1) := dk_28 (dk_at dksX0_turn_0 14 rfl rfl)
theorem dX0_turn_15 : decode cX0_turn 15 = .ok (.iconst 1, 1) := dk_4 (dk_at dksX0_turn_0 15 rfl rfl)
theorem dX0_turn_16 : decode cX0_turn 16 = .ok (.if_icmp .lt 10, 3) := dk_161 0 10 (dk_at dksX0_turn_0 16 rfl rfl)
theorem dX0_turn_19 : decode cX0_turn 19 = .ok (.iload_n 2, 1) := dk_28 (dk_at dksX0_turn_0 19 rfl rfl)
theorem dX0_turn_20 : decode cX0_turn 20 = .ok (.sipush 200, 3) := dk_17 0 200 (dk_at dksX0_turn_0 20 rfl rfl)
theorem dX0_turn_23 : decode cX0_turn 23 = .ok (.if_icmp .le 9, 3) := dk_164 0 9 (dk_at dksX0_turn_1 0 rfl rfl)
theorem dX0_turn_26 : decode cX0_turn 26 = .ok (.aload_n 0, 1) := dk_42 (dk_at dksX0_turn_1 3 rfl rfl)
theorem dX0_turn_27 : decode cX0_turn 27 = .ok (.iconst 5, 1) := dk_8 (dk_at dksX0_turn_1 4 rfl rfl)
theorem dX0_turn_28 : decode cX0_turn 28 = .ok (.invokevirtual 169, 3) := dk_182 0 169 (dk_at dksX0_turn_1 5 rfl rfl)
theorem dX0_turn_31 : decode cX0_turn 31 = .ok (.ireturn, 1) := dk_172 (dk_at dksX0_turn_1 8 rfl rfl)
theorem dX0_turn_32 : decode cX0_turn 32 = .ok (.aload_n 0, 1) := dk_42 (dk_at dksX0_turn_1 9 rfl rfl)
theorem dX0_turn_33 : decode cX0_turn 33 = .ok (.getfield 17, 3) := dk_180 0 17 (dk_at dksX0_turn_1 10 rfl rfl)
theorem dX0_turn_36 : decode cX0_turn 36 = .ok (.iload_n 1, 1) := dk_27 (dk_at dksX0_turn_1 13 rfl rfl)
theorem dX0_turn_37 : decode cX0_turn 37 = .ok (.aaload, 1) := dk_50 (dk_at dksX0_turn_1 14 rfl rfl)
theorem dX0_turn_38 : decode cX0_turn 38 = .ok (.astore_n 3, 1) := dk_78 (dk_at dksX0_turn_1 15 rfl rfl)
theorem dX0_turn_39 : decode cX0_turn 39 = .ok (.aload_n 3, 1) := dk_45 (dk_at dksX0_turn_1 16 rfl rfl)
theorem dX0_turn_40 : decode cX0_turn 40 = .ok (.getfield 255, 3) := dk_180 0 255 (dk_at dksX0_turn_1 17 rfl rfl)
theorem dX0_turn_43 : decode cX0_turn 43 = .ok (.iload_n 2, 1) := dk_28 (dk_at dksX0_turn_1 20 rfl rfl)
theorem dX0_turn_44 : decode cX0_turn 44 = .ok (.iadd, 1) := dk_96 (dk_at dksX0_turn_1 21 rfl rfl)
theorem dX0_turn_45 : decode cX0_turn 45 = .ok (.sipush 1000, 3) := dk_17 3 232 (dk_at dksX0_turn_2 0 rfl rfl)
theorem dX0_turn_48 : decode cX0_turn 48 = .ok (.if_icmp .le 10, 3) := dk_164 0 10 (dk_at dksX0_turn_2 3 rfl rfl)
theorem dX0_turn_51 : decode cX0_turn 51 = .ok (.aload_n 0, 1) := dk_42 (dk_at dksX0_turn_2 6 rfl rfl)
theorem dX0_turn_52 : decode cX0_turn 52 = .ok (.bipush 9, 2) := dk_16 9 (dk_at dksX0_turn_2 7 rfl rfl)
theorem dX0_turn_54 : decode cX0_turn 54 = .ok (.invokevirtual 169, 3) := dk_182 0 169 (dk_at dksX0_turn_2 9 rfl rfl)
theorem dX0_turn_57 : decode cX0_turn 57 = .ok (.ireturn, 1) := dk_172 (dk_at dksX0_turn_2 12 rfl rfl)
theorem dX0_turn_58 : decode cX0_turn 58 = .ok (.iconst 0, 1) := dk_3 (dk_at dksX0_turn_2 13 rfl rfl)
theorem dX0_turn_59 : decode cX0_turn 59 = .ok (.istore 4, 2) := dk_54 4 (dk_at dksX0_turn_2 14 rfl rfl)
theorem dX0_turn_61 : decode cX0_turn 61 = .ok (.iload 4, 2) := dk_21 4 (dk_at dksX0_turn_2 16 rfl rfl)
theorem dX0_turn_63 : decode cX0_turn 63 = .ok (.iload_n 2, 1) := dk_28 (dk_at dksX0_turn_2 18 rfl rfl)
theorem dX0_turn_64 : decode cX0_turn 64 = .ok (.if_icmp .ge 13, 3) := dk_162 0 13 (dk_at dksX0_turn_2 19 rfl rfl)
theorem dX0_turn_67 : decode cX0_turn 67 = .ok (.aload_n 3, 1) := dk_45 (dk_at dksX0_turn_2 22 rfl rfl)
theorem dX0_turn_68 : decode cX0_turn 68 = .ok (.invokevirtual 265, 3) := dk_182 1 9 (dk_at dksX0_turn_3 0 rfl rfl)
theorem dX0_turn_71 : decode cX0_turn 71 = .ok (.iinc 4 1, 3) := dk_132 4 1 (dk_at dksX0_turn_3 3 rfl rfl)
theorem dX0_turn_74 : decode cX0_turn 74 = .ok (.goto (-13), 3) := dk_167 255 243 (dk_at dksX0_turn_3 6 rfl rfl)
theorem dX0_turn_77 : decode cX0_turn 77 = .ok (.aload_n 0, 1) := dk_42 (dk_at dksX0_turn_3 9 rfl rfl)
theorem dX0_turn_78 : decode cX0_turn 78 = .ok (.aload_n 3, 1) := dk_45 (dk_at dksX0_turn_3 10 rfl rfl)
theorem dX0_turn_79 : decode cX0_turn 79 = .ok (.getfield 255, 3) := dk_180 0 255 (dk_at dksX0_turn_3 11 rfl rfl)
theorem dX0_turn_82 : decode cX0_turn 82 = .ok (.invokevirtual 215, 3) := dk_182 0 215 (dk_at dksX0_turn_3 14 rfl rfl)
theorem dX0_turn_85 : decode cX0_turn 85 = .ok (.ireturn, 1) := dk_172 (dk_at dksX0_turn_3 17 rfl rfl)
abbrev cX0_sheet : ByteArray := prog_1_method_24_code
def yX0_sheet : MethodName := ⟨RX0, "sheet", "(III)Z"⟩
def dkwX0_sheet_3 : List UInt8 := [21, 6, 25, 5, 3, 182, 0, 234, 182, 0, 161, 132, 6, 1, 167, 255, 225, 42, 3, 182, 0, 152, 172]
abbrev dktX0_sheet_3 : List UInt8 := dkwX0_sheet_3 ++ []
def dkwX0_sheet_2 : List UInt8 := [182, 0, 152, 172, 3, 54, 6, 21, 6, 29, 162, 0, 31, 25, 5, 182, 1, 9, 42, 180, 0, 11, 28, 50]
abbrev dktX0_sheet_2 : List UInt8 := dkwX0_sheet_2 ++ dktX0_sheet_3
def dkwX0_sheet_1 : List UInt8 := [180, 0, 17, 27, 50, 58, 5, 25, 5, 180, 0, 255, 29, 96, 17, 3, 232, 164, 0, 10, 42, 16, 9]
abbrev dktX0_sheet_1 : List UInt8 := dkwX0_sheet_1 ++ dktX0_sheet_2
def dkwX0_sheet_0 : List UInt8 := [42, 27, 28, 29, 182, 1, 12, 54, 4, 21, 4, 158, 0, 10, 42, 21, 4, 182, 0, 152, 172, 42]
abbrev dktX0_sheet_0 : List UInt8 := dkwX0_sheet_0 ++ dktX0_sheet_1
theorem dksX0_sheet_0 : cX0_sheet.data.toList.drop 0 = dktX0_sheet_0 := by decide +kernel
theorem dksX0_sheet_1 : cX0_sheet.data.toList.drop 22 = dktX0_sheet_1 := dk_seg dksX0_sheet_0 22 rfl rfl
theorem dksX0_sheet_2 : cX0_sheet.data.toList.drop 45 = dktX0_sheet_2 := dk_seg dksX0_sheet_1 23 rfl rfl
theorem dksX0_sheet_3 : cX0_sheet.data.toList.drop 69 = dktX0_sheet_3 := dk_seg dksX0_sheet_2 24 rfl rfl
theorem dX0_sheet_0 : decode cX0_sheet 0 = .ok (.aload_n 0, 1) := dk_42 (dk_at dksX0_sheet_0 0 rfl rfl)
theorem dX0_sheet_1 : decode cX0_sheet 1 = .ok (.iload_n 1, 1) := dk_27 (dk_at dksX0_sheet_0 1 rfl rfl)
theorem dX0_sheet_2 : decode cX0_sheet 2 = .ok (.iload_n 2, 1) := dk_28 (dk_at dksX0_sheet_0 2 rfl rfl)
theorem dX0_sheet_3 : decode cX0_sheet 3 = .ok (.iload_n 3, 1) := dk_29 (dk_at dksX0_sheet_0 3 rfl rfl)
theorem dX0_sheet_4 : decode cX0_sheet 4 = .ok (.invokevirtual 268, 3) := dk_182 1 12 (dk_at dksX0_sheet_0 4 rfl rfl)
theorem dX0_sheet_7 : decode cX0_sheet 7 = .ok (.istore 4, 2) := dk_54 4 (dk_at dksX0_sheet_0 7 rfl rfl)
theorem dX0_sheet_9 : decode cX0_sheet 9 = .ok (.iload 4, 2) := dk_21 4 (dk_at dksX0_sheet_0 9 rfl rfl)
theorem dX0_sheet_11 : decode cX0_sheet 11 = .ok (.ifCond .le 10, 3) := dk_158 0 10 (dk_at dksX0_sheet_0 11 rfl rfl)
theorem dX0_sheet_14 : decode cX0_sheet 14 = .ok (.aload_n 0, 1) := dk_42 (dk_at dksX0_sheet_0 14 rfl rfl)
theorem dX0_sheet_15 : decode cX0_sheet 15 = .ok (.iload 4, 2) := dk_21 4 (dk_at dksX0_sheet_0 15 rfl rfl)
theorem dX0_sheet_17 : decode cX0_sheet 17 = .ok (.invokevirtual 152, 3) := dk_182 0 152 (dk_at dksX0_sheet_0 17 rfl rfl)
theorem dX0_sheet_20 : decode cX0_sheet 20 = .ok (.ireturn, 1) := dk_172 (dk_at dksX0_sheet_0 20 rfl rfl)
theorem dX0_sheet_21 : decode cX0_sheet 21 = .ok (.aload_n 0, 1) := dk_42 (dk_at dksX0_sheet_0 21 rfl rfl)
theorem dX0_sheet_22 : decode cX0_sheet 22 = .ok (.getfield 17, 3) := dk_180 0 17 (dk_at dksX0_sheet_1 0 rfl rfl)
theorem dX0_sheet_25 : decode cX0_sheet 25 = .ok (.iload_n 1, 1) := dk_27 (dk_at dksX0_sheet_1 3 rfl rfl)
theorem dX0_sheet_26 : decode cX0_sheet 26 = .ok (.aaload, 1) := dk_50 (dk_at dksX0_sheet_1 4 rfl rfl)
theorem dX0_sheet_27 : decode cX0_sheet 27 = .ok (.astore 5, 2) := dk_58 5 (dk_at dksX0_sheet_1 5 rfl rfl)
theorem dX0_sheet_29 : decode cX0_sheet 29 = .ok (.aload 5, 2) := dk_25 5 (dk_at dksX0_sheet_1 7 rfl rfl)
theorem dX0_sheet_31 : decode cX0_sheet 31 = .ok (.getfield 255, 3) := dk_180 0 255 (dk_at dksX0_sheet_1 9 rfl rfl)
theorem dX0_sheet_34 : decode cX0_sheet 34 = .ok (.iload_n 3, 1) := dk_29 (dk_at dksX0_sheet_1 12 rfl rfl)
theorem dX0_sheet_35 : decode cX0_sheet 35 = .ok (.iadd, 1) := dk_96 (dk_at dksX0_sheet_1 13 rfl rfl)
theorem dX0_sheet_36 : decode cX0_sheet 36 = .ok (.sipush 1000, 3) := dk_17 3 232 (dk_at dksX0_sheet_1 14 rfl rfl)
theorem dX0_sheet_39 : decode cX0_sheet 39 = .ok (.if_icmp .le 10, 3) := dk_164 0 10 (dk_at dksX0_sheet_1 17 rfl rfl)
theorem dX0_sheet_42 : decode cX0_sheet 42 = .ok (.aload_n 0, 1) := dk_42 (dk_at dksX0_sheet_1 20 rfl rfl)
theorem dX0_sheet_43 : decode cX0_sheet 43 = .ok (.bipush 9, 2) := dk_16 9 (dk_at dksX0_sheet_1 21 rfl rfl)
theorem dX0_sheet_45 : decode cX0_sheet 45 = .ok (.invokevirtual 152, 3) := dk_182 0 152 (dk_at dksX0_sheet_2 0 rfl rfl)
theorem dX0_sheet_48 : decode cX0_sheet 48 = .ok (.ireturn, 1) := dk_172 (dk_at dksX0_sheet_2 3 rfl rfl)
theorem dX0_sheet_49 : decode cX0_sheet 49 = .ok (.iconst 0, 1) := dk_3 (dk_at dksX0_sheet_2 4 rfl rfl)
theorem dX0_sheet_50 : decode cX0_sheet 50 = .ok (.istore 6, 2) := dk_54 6 (dk_at dksX0_sheet_2 5 rfl rfl)
theorem dX0_sheet_52 : decode cX0_sheet 52 = .ok (.iload 6, 2) := dk_21 6 (dk_at dksX0_sheet_2 7 rfl rfl)
theorem dX0_sheet_54 : decode cX0_sheet 54 = .ok (.iload_n 3, 1) := dk_29 (dk_at dksX0_sheet_2 9 rfl rfl)
theorem dX0_sheet_55 : decode cX0_sheet 55 = .ok (.if_icmp .ge 31, 3) := dk_162 0 31 (dk_at dksX0_sheet_2 10 rfl rfl)
theorem dX0_sheet_58 : decode cX0_sheet 58 = .ok (.aload 5, 2) := dk_25 5 (dk_at dksX0_sheet_2 13 rfl rfl)
theorem dX0_sheet_60 : decode cX0_sheet 60 = .ok (.invokevirtual 265, 3) := dk_182 1 9 (dk_at dksX0_sheet_2 15 rfl rfl)
theorem dX0_sheet_63 : decode cX0_sheet 63 = .ok (.aload_n 0, 1) := dk_42 (dk_at dksX0_sheet_2 18 rfl rfl)
theorem dX0_sheet_64 : decode cX0_sheet 64 = .ok (.getfield 11, 3) := dk_180 0 11 (dk_at dksX0_sheet_2 19 rfl rfl)
theorem dX0_sheet_67 : decode cX0_sheet 67 = .ok (.iload_n 2, 1) := dk_28 (dk_at dksX0_sheet_2 22 rfl rfl)
theorem dX0_sheet_68 : decode cX0_sheet 68 = .ok (.aaload, 1) := dk_50 (dk_at dksX0_sheet_2 23 rfl rfl)
theorem dX0_sheet_69 : decode cX0_sheet 69 = .ok (.iload 6, 2) := dk_21 6 (dk_at dksX0_sheet_3 0 rfl rfl)
theorem dX0_sheet_71 : decode cX0_sheet 71 = .ok (.aload 5, 2) := dk_25 5 (dk_at dksX0_sheet_3 2 rfl rfl)
theorem dX0_sheet_73 : decode cX0_sheet 73 = .ok (.iconst 0, 1) := dk_3 (dk_at dksX0_sheet_3 4 rfl rfl)
theorem dX0_sheet_74 : decode cX0_sheet 74 = .ok (.invokevirtual 234, 3) := dk_182 0 234 (dk_at dksX0_sheet_3 5 rfl rfl)
theorem dX0_sheet_77 : decode cX0_sheet 77 = .ok (.invokevirtual 161, 3) := dk_182 0 161 (dk_at dksX0_sheet_3 8 rfl rfl)
theorem dX0_sheet_80 : decode cX0_sheet 80 = .ok (.iinc 6 1, 3) := dk_132 6 1 (dk_at dksX0_sheet_3 11 rfl rfl)
theorem dX0_sheet_83 : decode cX0_sheet 83 = .ok (.goto (-31), 3) := dk_167 255 225 (dk_at dksX0_sheet_3 14 rfl rfl)
theorem dX0_sheet_86 : decode cX0_sheet 86 = .ok (.aload_n 0, 1) := dk_42 (dk_at dksX0_sheet_3 17 rfl rfl)
theorem dX0_sheet_87 : decode cX0_sheet 87 = .ok (.iconst 0, 1) := dk_3 (dk_at dksX0_sheet_3 18 rfl rfl)
theorem dX0_sheet_88 : decode cX0_sheet 88 = .ok (.invokevirtual 152, 3) := dk_182 0 152 (dk_at dksX0_sheet_3 19 rfl rfl)
theorem dX0_sheet_91 : decode cX0_sheet 91 = .ok (.ireturn, 1) := dk_172 (dk_at dksX0_sheet_3 22 rfl rfl)
abbrev cX0_wrongSheet : ByteArray := prog_1_method_23_code
def yX0_wrongSheet : MethodName := ⟨RX0, "wrongSheet", "(III)I"⟩
def dkwX0_wrongSheet_2 : List UInt8 := [42, 180, 0, 11, 28, 50, 182, 0, 204, 29, 162, 0, 7, 7, 167, 0, 4, 3, 172]
abbrev dktX0_wrongSheet_2 : List UInt8 := dkwX0_wrongSheet_2 ++ []
def dkwX0_wrongSheet_1 : List UInt8 := [50, 180, 0, 179, 199, 0, 5, 6, 172, 29, 4, 161, 0, 9, 29, 16, 60, 164, 0, 7, 8, 167, 0, 21]
abbrev dktX0_wrongSheet_1 : List UInt8 := dkwX0_wrongSheet_1 ++ dktX0_wrongSheet_2
def dkwX0_wrongSheet_0 : List UInt8 := [28, 184, 0, 148, 154, 0, 5, 4, 172, 42, 27, 182, 0, 196, 154, 0, 5, 5, 172, 42, 180, 0, 11, 28]
abbrev dktX0_wrongSheet_0 : List UInt8 := dkwX0_wrongSheet_0 ++ dktX0_wrongSheet_1
theorem dksX0_wrongSheet_0 : cX0_wrongSheet.data.toList.drop 0 = dktX0_wrongSheet_0 := by decide +kernel
theorem dksX0_wrongSheet_1 : cX0_wrongSheet.data.toList.drop 24 = dktX0_wrongSheet_1 := dk_seg dksX0_wrongSheet_0 24 rfl rfl
theorem dksX0_wrongSheet_2 : cX0_wrongSheet.data.toList.drop 48 = dktX0_wrongSheet_2 := dk_seg dksX0_wrongSheet_1 24 rfl rfl
theorem dX0_wrongSheet_0 : decode cX0_wrongSheet 0 = .ok (.iload_n 2, 1) := dk_28 (dk_at dksX0_wrongSheet_0 0 rfl rfl)
theorem dX0_wrongSheet_1 : decode cX0_wrongSheet 1 = .ok (.invokestatic 148, 3) := dk_184 0 148 (dk_at dksX0_wrongSheet_0 1 rfl rfl)
theorem dX0_wrongSheet_4 : decode cX0_wrongSheet 4 = .ok (.ifCond .ne 5, 3) := dk_154 0 5 (dk_at dksX0_wrongSheet_0 4 rfl rfl)
theorem dX0_wrongSheet_7 : decode cX0_wrongSheet 7 = .ok (.iconst 1, 1) := dk_4 (dk_at dksX0_wrongSheet_0 7 rfl rfl)
theorem dX0_wrongSheet_8 : decode cX0_wrongSheet 8 = .ok (.ireturn, 1) := dk_172 (dk_at dksX0_wrongSheet_0 8 rfl rfl)
theorem dX0_wrongSheet_9 : decode cX0_wrongSheet 9 = .ok (.aload_n 0, 1) := dk_42 (dk_at dksX0_wrongSheet_0 9 rfl rfl)
theorem dX0_wrongSheet_10 : decode cX0_wrongSheet 10 = .ok (.iload_n 1, 1) := dk_27 (dk_at dksX0_wrongSheet_0 10 rfl rfl)
theorem dX0_wrongSheet_11 : decode cX0_wrongSheet 11 = .ok (.invokevirtual 196, 3) := dk_182 0 196 (dk_at dksX0_wrongSheet_0 11 rfl rfl)
theorem dX0_wrongSheet_14 : decode cX0_wrongSheet 14 = .ok (.ifCond .ne 5, 3) := dk_154 0 5 (dk_at dksX0_wrongSheet_0 14 rfl rfl)
theorem dX0_wrongSheet_17 : decode cX0_wrongSheet 17 = .ok (.iconst 2, 1) := dk_5 (dk_at dksX0_wrongSheet_0 17 rfl rfl)
theorem dX0_wrongSheet_18 : decode cX0_wrongSheet 18 = .ok (.ireturn, 1) := dk_172 (dk_at dksX0_wrongSheet_0 18 rfl rfl)
theorem dX0_wrongSheet_19 : decode cX0_wrongSheet 19 = .ok (.aload_n 0, 1) := dk_42 (dk_at dksX0_wrongSheet_0 19 rfl rfl)
theorem dX0_wrongSheet_20 : decode cX0_wrongSheet 20 = .ok (.getfield 11, 3) := dk_180 0 11 (dk_at dksX0_wrongSheet_0 20 rfl rfl)
theorem dX0_wrongSheet_23 : decode cX0_wrongSheet 23 = .ok (.iload_n 2, 1) := dk_28 (dk_at dksX0_wrongSheet_0 23 rfl rfl)
theorem dX0_wrongSheet_24 : decode cX0_wrongSheet 24 = .ok (.aaload, 1) := dk_50 (dk_at dksX0_wrongSheet_1 0 rfl rfl)
theorem dX0_wrongSheet_25 : decode cX0_wrongSheet 25 = .ok (.getfield 179, 3) := dk_180 0 179 (dk_at dksX0_wrongSheet_1 1 rfl rfl)
theorem dX0_wrongSheet_28 : decode cX0_wrongSheet 28 = .ok (.ifnonnull 5, 3) := dk_199 0 5 (dk_at dksX0_wrongSheet_1 4 rfl rfl)
theorem dX0_wrongSheet_31 : decode cX0_wrongSheet 31 = .ok (.iconst 3, 1) := dk_6 (dk_at dksX0_wrongSheet_1 7 rfl rfl)
theorem dX0_wrongSheet_32 : decode cX0_wrongSheet 32 = .ok (.ireturn, 1) := dk_172 (dk_at dksX0_wrongSheet_1 8 rfl rfl)
theorem dX0_wrongSheet_33 : decode cX0_wrongSheet 33 = .ok (.iload_n 3, 1) := dk_29 (dk_at dksX0_wrongSheet_1 9 rfl rfl)
theorem dX0_wrongSheet_34 : decode cX0_wrongSheet 34 = .ok (.iconst 1, 1) := dk_4 (dk_at dksX0_wrongSheet_1 10 rfl rfl)
theorem dX0_wrongSheet_35 : decode cX0_wrongSheet 35 = .ok (.if_icmp .lt 9, 3) := dk_161 0 9 (dk_at dksX0_wrongSheet_1 11 rfl rfl)
theorem dX0_wrongSheet_38 : decode cX0_wrongSheet 38 = .ok (.iload_n 3, 1) := dk_29 (dk_at dksX0_wrongSheet_1 14 rfl rfl)
theorem dX0_wrongSheet_39 : decode cX0_wrongSheet 39 = .ok (.bipush 60, 2) := dk_16 60 (dk_at dksX0_wrongSheet_1 15 rfl rfl)
theorem dX0_wrongSheet_41 : decode cX0_wrongSheet 41 = .ok (.if_icmp .le 7, 3) := dk_164 0 7 (dk_at dksX0_wrongSheet_1 17 rfl rfl)
theorem dX0_wrongSheet_44 : decode cX0_wrongSheet 44 = .ok (.iconst 5, 1) := dk_8 (dk_at dksX0_wrongSheet_1 20 rfl rfl)
theorem dX0_wrongSheet_45 : decode cX0_wrongSheet 45 = .ok (.goto 21, 3) := dk_167 0 21 (dk_at dksX0_wrongSheet_1 21 rfl rfl)
theorem dX0_wrongSheet_48 : decode cX0_wrongSheet 48 = .ok (.aload_n 0, 1) := dk_42 (dk_at dksX0_wrongSheet_2 0 rfl rfl)
theorem dX0_wrongSheet_49 : decode cX0_wrongSheet 49 = .ok (.getfield 11, 3) := dk_180 0 11 (dk_at dksX0_wrongSheet_2 1 rfl rfl)
theorem dX0_wrongSheet_52 : decode cX0_wrongSheet 52 = .ok (.iload_n 2, 1) := dk_28 (dk_at dksX0_wrongSheet_2 4 rfl rfl)
theorem dX0_wrongSheet_53 : decode cX0_wrongSheet 53 = .ok (.aaload, 1) := dk_50 (dk_at dksX0_wrongSheet_2 5 rfl rfl)
theorem dX0_wrongSheet_54 : decode cX0_wrongSheet 54 = .ok (.invokevirtual 204, 3) := dk_182 0 204 (dk_at dksX0_wrongSheet_2 6 rfl rfl)
theorem dX0_wrongSheet_57 : decode cX0_wrongSheet 57 = .ok (.iload_n 3, 1) := dk_29 (dk_at dksX0_wrongSheet_2 9 rfl rfl)
theorem dX0_wrongSheet_58 : decode cX0_wrongSheet 58 = .ok (.if_icmp .ge 7, 3) := dk_162 0 7 (dk_at dksX0_wrongSheet_2 10 rfl rfl)
theorem dX0_wrongSheet_61 : decode cX0_wrongSheet 61 = .ok (.iconst 4, 1) := dk_7 (dk_at dksX0_wrongSheet_2 13 rfl rfl)
theorem dX0_wrongSheet_62 : decode cX0_wrongSheet 62 = .ok (.goto 4, 3) := dk_167 0 4 (dk_at dksX0_wrongSheet_2 14 rfl rfl)
theorem dX0_wrongSheet_65 : decode cX0_wrongSheet 65 = .ok (.iconst 0, 1) := dk_3 (dk_at dksX0_wrongSheet_2 17 rfl rfl)
theorem dX0_wrongSheet_66 : decode cX0_wrongSheet 66 = .ok (.ireturn, 1) := dk_172 (dk_at dksX0_wrongSheet_2 18 rfl rfl)
abbrev cX0_explain : ByteArray := prog_1_method_26_code
def yX0_explain : MethodName := ⟨RX0, "explain", "(III)I"⟩
def dkwX0_explain_10 : List UInt8 := [132, 7, 1, 167, 255, 110, 42, 16, 8, 182, 0, 169, 172]
abbrev dktX0_explain_10 : List UInt8 := dkwX0_explain_10 ++ []
def dkwX0_explain_9 : List UInt8 := [182, 0, 215, 172, 132, 10, 1, 167, 255, 165, 132, 9, 1, 167, 255, 146, 132, 8, 1, 167, 255, 125]
abbrev dktX0_explain_9 : List UInt8 := dkwX0_explain_9 ++ dktX0_explain_10
def dkwX0_explain_8 : List UInt8 := [79, 42, 180, 0, 60, 5, 21, 9, 79, 42, 180, 0, 60, 6, 21, 10, 79, 42, 4, 181, 1, 28, 42, 4]
abbrev dktX0_explain_8 : List UInt8 := dkwX0_explain_8 ++ dktX0_explain_9
def dkwX0_explain_7 : List UInt8 := [182, 1, 24, 154, 0, 6, 167, 0, 46, 42, 180, 0, 60, 3, 21, 7, 79, 42, 180, 0, 60, 4, 21, 8]
abbrev dktX0_explain_7 : List UInt8 := dkwX0_explain_7 ++ dktX0_explain_8
def dkwX0_explain_6 : List UInt8 := [25, 6, 21, 7, 21, 8, 21, 9, 21, 10, 182, 1, 5, 42, 25, 6, 42, 180, 0, 11, 28, 50, 29]
abbrev dktX0_explain_6 : List UInt8 := dkwX0_explain_6 ++ dktX0_explain_7
def dkwX0_explain_5 : List UInt8 := [25, 5, 180, 0, 201, 162, 0, 106, 3, 54, 10, 21, 10, 6, 162, 0, 91, 25, 6, 25, 5, 182, 1, 20]
abbrev dktX0_explain_5 : List UInt8 := dkwX0_explain_5 ++ dktX0_explain_6
def dkwX0_explain_4 : List UInt8 := [163, 0, 146, 3, 54, 8, 21, 8, 4, 96, 25, 5, 180, 0, 199, 162, 0, 125, 3, 54, 9, 21, 9]
abbrev dktX0_explain_4 : List UInt8 := dkwX0_explain_4 ++ dktX0_explain_5
def dkwX0_explain_3 : List UInt8 := [29, 182, 1, 24, 153, 0, 14, 42, 3, 181, 1, 28, 42, 3, 182, 0, 215, 172, 4, 54, 7, 21, 7, 29]
abbrev dktX0_explain_3 : List UInt8 := dkwX0_explain_3 ++ dktX0_explain_4
def dkwX0_explain_2 : List UInt8 := [180, 0, 231, 183, 0, 212, 58, 6, 25, 6, 25, 5, 182, 1, 20, 42, 25, 6, 42, 180, 0, 11, 28, 50]
abbrev dktX0_explain_2 : List UInt8 := dkwX0_explain_2 ++ dktX0_explain_3
def dkwX0_explain_1 : List UInt8 := [180, 0, 17, 27, 50, 58, 5, 187, 0, 15, 89, 25, 5, 180, 0, 199, 25, 5, 180, 0, 201, 25, 5]
abbrev dktX0_explain_1 : List UInt8 := dkwX0_explain_1 ++ dktX0_explain_2
def dkwX0_explain_0 : List UInt8 := [42, 27, 28, 29, 182, 1, 12, 54, 4, 21, 4, 158, 0, 10, 42, 21, 4, 182, 0, 169, 172, 42]
abbrev dktX0_explain_0 : List UInt8 := dkwX0_explain_0 ++ dktX0_explain_1
theorem dksX0_explain_0 : cX0_explain.data.toList.drop 0 = dktX0_explain_0 := by decide +kernel
theorem dksX0_explain_1 : cX0_explain.data.toList.drop 22 = dktX0_explain_1 := dk_seg dksX0_explain_0 22 rfl rfl
theorem dksX0_explain_2 : cX0_explain.data.toList.drop 45 = dktX0_explain_2 := dk_seg dksX0_explain_1 23 rfl rfl
theorem dksX0_explain_3 : cX0_explain.data.toList.drop 69 = dktX0_explain_3 := dk_seg dksX0_explain_2 24 rfl rfl
theorem dksX0_explain_4 : cX0_explain.data.toList.drop 93 = dktX0_explain_4 := dk_seg dksX0_explain_3 24 rfl rfl
theorem dksX0_explain_5 : cX0_explain.data.toList.drop 116 = dktX0_explain_5 := dk_seg dksX0_explain_4 23 rfl rfl
theorem dksX0_explain_6 : cX0_explain.data.toList.drop 140 = dktX0_explain_6 := dk_seg dksX0_explain_5 24 rfl rfl
theorem dksX0_explain_7 : cX0_explain.data.toList.drop 163 = dktX0_explain_7 := dk_seg dksX0_explain_6 23 rfl rfl
theorem dksX0_explain_8 : cX0_explain.data.toList.drop 187 = dktX0_explain_8 := dk_seg dksX0_explain_7 24 rfl rfl
theorem dksX0_explain_9 : cX0_explain.data.toList.drop 211 = dktX0_explain_9 := dk_seg dksX0_explain_8 24 rfl rfl
theorem dksX0_explain_10 : cX0_explain.data.toList.drop 233 = dktX0_explain_10 := dk_seg dksX0_explain_9 22 rfl rfl
theorem dX0_explain_0 : decode cX0_explain 0 = .ok (.aload_n 0, 1) := dk_42 (dk_at dksX0_explain_0 0 rfl rfl)
theorem dX0_explain_1 : decode cX0_explain 1 = .ok (.iload_n 1, 1) := dk_27 (dk_at dksX0_explain_0 1 rfl rfl)
theorem dX0_explain_2 : decode cX0_explain 2 = .ok (.iload_n 2, 1) := dk_28 (dk_at dksX0_explain_0 2 rfl rfl)
theorem dX0_explain_3 : decode cX0_explain 3 = .ok (.iload_n 3, 1) := dk_29 (dk_at dksX0_explain_0 3 rfl rfl)
theorem dX0_explain_4 : decode cX0_explain 4 = .ok (.invokevirtual 268, 3) := dk_182 1 12 (dk_at dksX0_explain_0 4 rfl rfl)
theorem dX0_explain_7 : decode cX0_explain 7 = .ok (.istore 4, 2) := dk_54 4 (dk_at dksX0_explain_0 7 rfl rfl)
theorem dX0_explain_9 : decode cX0_explain 9 = .ok (.iload 4, 2) := dk_21 4 (dk_at dksX0_explain_0 9 rfl rfl)
theorem dX0_explain_11 : decode cX0_explain 11 = .ok (.ifCond .le 10, 3) := dk_158 0 10 (dk_at dksX0_explain_0 11 rfl rfl)
theorem dX0_explain_14 : decode cX0_explain 14 = .ok (.aload_n 0, 1) := dk_42 (dk_at dksX0_explain_0 14 rfl rfl)
theorem dX0_explain_15 : decode cX0_explain 15 = .ok (.iload 4, 2) := dk_21 4 (dk_at dksX0_explain_0 15 rfl rfl)
theorem dX0_explain_17 : decode cX0_explain 17 = .ok (.invokevirtual 169, 3) := dk_182 0 169 (dk_at dksX0_explain_0 17 rfl rfl)
theorem dX0_explain_20 : decode cX0_explain 20 = .ok (.ireturn, 1) := dk_172 (dk_at dksX0_explain_0 20 rfl rfl)
theorem dX0_explain_21 : decode cX0_explain 21 = .ok (.aload_n 0, 1) := dk_42 (dk_at dksX0_explain_0 21 rfl rfl)
theorem dX0_explain_22 : decode cX0_explain 22 = .ok (.getfield 17, 3) := dk_180 0 17 (dk_at dksX0_explain_1 0 rfl rfl)
theorem dX0_explain_25 : decode cX0_explain 25 = .ok (.iload_n 1, 1) := dk_27 (dk_at dksX0_explain_1 3 rfl rfl)
theorem dX0_explain_26 : decode cX0_explain 26 = .ok (.aaload, 1) := dk_50 (dk_at dksX0_explain_1 4 rfl rfl)
theorem dX0_explain_27 : decode cX0_explain 27 = .ok (.astore 5, 2) := dk_58 5 (dk_at dksX0_explain_1 5 rfl rfl)
theorem dX0_explain_29 : decode cX0_explain 29 = .ok (.new 15, 3) := dk_187 0 15 (dk_at dksX0_explain_1 7 rfl rfl)
theorem dX0_explain_32 : decode cX0_explain 32 = .ok (.dup, 1) := dk_89 (dk_at dksX0_explain_1 10 rfl rfl)
theorem dX0_explain_33 : decode cX0_explain 33 = .ok (.aload 5, 2) := dk_25 5 (dk_at dksX0_explain_1 11 rfl rfl)
theorem dX0_explain_35 : decode cX0_explain 35 = .ok (.getfield 199, 3) := dk_180 0 199 (dk_at dksX0_explain_1 13 rfl rfl)
theorem dX0_explain_38 : decode cX0_explain 38 = .ok (.aload 5, 2) := dk_25 5 (dk_at dksX0_explain_1 16 rfl rfl)
theorem dX0_explain_40 : decode cX0_explain 40 = .ok (.getfield 201, 3) := dk_180 0 201 (dk_at dksX0_explain_1 18 rfl rfl)
theorem dX0_explain_43 : decode cX0_explain 43 = .ok (.aload 5, 2) := dk_25 5 (dk_at dksX0_explain_1 21 rfl rfl)
theorem dX0_explain_45 : decode cX0_explain 45 = .ok (.getfield 231, 3) := dk_180 0 231 (dk_at dksX0_explain_2 0 rfl rfl)
theorem dX0_explain_48 : decode cX0_explain 48 = .ok (.invokespecial 212, 3) := dk_183 0 212 (dk_at dksX0_explain_2 3 rfl rfl)
theorem dX0_explain_51 : decode cX0_explain 51 = .ok (.astore 6, 2) := dk_58 6 (dk_at dksX0_explain_2 6 rfl rfl)
theorem dX0_explain_53 : decode cX0_explain 53 = .ok (.aload 6, 2) := dk_25 6 (dk_at dksX0_explain_2 8 rfl rfl)
theorem dX0_explain_55 : decode cX0_explain 55 = .ok (.aload 5, 2) := dk_25 5 (dk_at dksX0_explain_2 10 rfl rfl)
theorem dX0_explain_57 : decode cX0_explain 57 = .ok (.invokevirtual 276, 3) := dk_182 1 20 (dk_at dksX0_explain_2 12 rfl rfl)
theorem dX0_explain_60 : decode cX0_explain 60 = .ok (.aload_n 0, 1) := dk_42 (dk_at dksX0_explain_2 15 rfl rfl)
theorem dX0_explain_61 : decode cX0_explain 61 = .ok (.aload 6, 2) := dk_25 6 (dk_at dksX0_explain_2 16 rfl rfl)
theorem dX0_explain_63 : decode cX0_explain 63 = .ok (.aload_n 0, 1) := dk_42 (dk_at dksX0_explain_2 18 rfl rfl)
theorem dX0_explain_64 : decode cX0_explain 64 = .ok (.getfield 11, 3) := dk_180 0 11 (dk_at dksX0_explain_2 19 rfl rfl)
theorem dX0_explain_67 : decode cX0_explain 67 = .ok (.iload_n 2, 1) := dk_28 (dk_at dksX0_explain_2 22 rfl rfl)
theorem dX0_explain_68 : decode cX0_explain 68 = .ok (.aaload, 1) := dk_50 (dk_at dksX0_explain_2 23 rfl rfl)
theorem dX0_explain_69 : decode cX0_explain 69 = .ok (.iload_n 3, 1) := dk_29 (dk_at dksX0_explain_3 0 rfl rfl)
theorem dX0_explain_70 : decode cX0_explain 70 = .ok (.invokevirtual 280, 3) := dk_182 1 24 (dk_at dksX0_explain_3 1 rfl rfl)
theorem dX0_explain_73 : decode cX0_explain 73 = .ok (.ifCond .eq 14, 3) := dk_153 0 14 (dk_at dksX0_explain_3 4 rfl rfl)
theorem dX0_explain_76 : decode cX0_explain 76 = .ok (.aload_n 0, 1) := dk_42 (dk_at dksX0_explain_3 7 rfl rfl)
theorem dX0_explain_77 : decode cX0_explain 77 = .ok (.iconst 0, 1) := dk_3 (dk_at dksX0_explain_3 8 rfl rfl)
theorem dX0_explain_78 : decode cX0_explain 78 = .ok (.putfield 284, 3) := dk_181 1 28 (dk_at dksX0_explain_3 9 rfl rfl)
theorem dX0_explain_81 : decode cX0_explain 81 = .ok (.aload_n 0, 1) := dk_42 (dk_at dksX0_explain_3 12 rfl rfl)
theorem dX0_explain_82 : decode cX0_explain 82 = .ok (.iconst 0, 1) := dk_3 (dk_at dksX0_explain_3 13 rfl rfl)
theorem dX0_explain_83 : decode cX0_explain 83 = .ok (.invokevirtual 215, 3) := dk_182 0 215 (dk_at dksX0_explain_3 14 rfl rfl)
theorem dX0_explain_86 : decode cX0_explain 86 = .ok (.ireturn, 1) := dk_172 (dk_at dksX0_explain_3 17 rfl rfl)
theorem dX0_explain_87 : decode cX0_explain 87 = .ok (.iconst 1, 1) := dk_4 (dk_at dksX0_explain_3 18 rfl rfl)
theorem dX0_explain_88 : decode cX0_explain 88 = .ok (.istore 7, 2) := dk_54 7 (dk_at dksX0_explain_3 19 rfl rfl)
theorem dX0_explain_90 : decode cX0_explain 90 = .ok (.iload 7, 2) := dk_21 7 (dk_at dksX0_explain_3 21 rfl rfl)
theorem dX0_explain_92 : decode cX0_explain 92 = .ok (.iload_n 3, 1) := dk_29 (dk_at dksX0_explain_3 23 rfl rfl)
theorem dX0_explain_93 : decode cX0_explain 93 = .ok (.if_icmp .gt 146, 3) := dk_163 0 146 (dk_at dksX0_explain_4 0 rfl rfl)
theorem dX0_explain_96 : decode cX0_explain 96 = .ok (.iconst 0, 1) := dk_3 (dk_at dksX0_explain_4 3 rfl rfl)
theorem dX0_explain_97 : decode cX0_explain 97 = .ok (.istore 8, 2) := dk_54 8 (dk_at dksX0_explain_4 4 rfl rfl)
theorem dX0_explain_99 : decode cX0_explain 99 = .ok (.iload 8, 2) := dk_21 8 (dk_at dksX0_explain_4 6 rfl rfl)
theorem dX0_explain_101 : decode cX0_explain 101 = .ok (.iconst 1, 1) := dk_4 (dk_at dksX0_explain_4 8 rfl rfl)
theorem dX0_explain_102 : decode cX0_explain 102 = .ok (.iadd, 1) := dk_96 (dk_at dksX0_explain_4 9 rfl rfl)
theorem dX0_explain_103 : decode cX0_explain 103 = .ok (.aload 5, 2) := dk_25 5 (dk_at dksX0_explain_4 10 rfl rfl)
theorem dX0_explain_105 : decode cX0_explain 105 = .ok (.getfield 199, 3) := dk_180 0 199 (dk_at dksX0_explain_4 12 rfl rfl)
theorem dX0_explain_108 : decode cX0_explain 108 = .ok (.if_icmp .ge 125, 3) := dk_162 0 125 (dk_at dksX0_explain_4 15 rfl rfl)
theorem dX0_explain_111 : decode cX0_explain 111 = .ok (.iconst 0, 1) := dk_3 (dk_at dksX0_explain_4 18 rfl rfl)
theorem dX0_explain_112 : decode cX0_explain 112 = .ok (.istore 9, 2) := dk_54 9 (dk_at dksX0_explain_4 19 rfl rfl)
theorem dX0_explain_114 : decode cX0_explain 114 = .ok (.iload 9, 2) := dk_21 9 (dk_at dksX0_explain_4 21 rfl rfl)
theorem dX0_explain_116 : decode cX0_explain 116 = .ok (.aload 5, 2) := dk_25 5 (dk_at dksX0_explain_5 0 rfl rfl)
theorem dX0_explain_118 : decode cX0_explain 118 = .ok (.getfield 201, 3) := dk_180 0 201 (dk_at dksX0_explain_5 2 rfl rfl)
theorem dX0_explain_121 : decode cX0_explain 121 = .ok (.if_icmp .ge 106, 3) := dk_162 0 106 (dk_at dksX0_explain_5 5 rfl rfl)
theorem dX0_explain_124 : decode cX0_explain 124 = .ok (.iconst 0, 1) := dk_3 (dk_at dksX0_explain_5 8 rfl rfl)
theorem dX0_explain_125 : decode cX0_explain 125 = .ok (.istore 10, 2) := dk_54 10 (dk_at dksX0_explain_5 9 rfl rfl)
theorem dX0_explain_127 : decode cX0_explain 127 = .ok (.iload 10, 2) := dk_21 10 (dk_at dksX0_explain_5 11 rfl rfl)
theorem dX0_explain_129 : decode cX0_explain 129 = .ok (.iconst 3, 1) := dk_6 (dk_at dksX0_explain_5 13 rfl rfl)
theorem dX0_explain_130 : decode cX0_explain 130 = .ok (.if_icmp .ge 91, 3) := dk_162 0 91 (dk_at dksX0_explain_5 14 rfl rfl)
theorem dX0_explain_133 : decode cX0_explain 133 = .ok (.aload 6, 2) := dk_25 6 (dk_at dksX0_explain_5 17 rfl rfl)
theorem dX0_explain_135 : decode cX0_explain 135 = .ok (.aload 5, 2) := dk_25 5 (dk_at dksX0_explain_5 19 rfl rfl)
theorem dX0_explain_137 : decode cX0_explain 137 = .ok (.invokevirtual 276, 3) := dk_182 1 20 (dk_at dksX0_explain_5 21 rfl rfl)
theorem dX0_explain_140 : decode cX0_explain 140 = .ok (.aload 6, 2) := dk_25 6 (dk_at dksX0_explain_6 0 rfl rfl)
theorem dX0_explain_142 : decode cX0_explain 142 = .ok (.iload 7, 2) := dk_21 7 (dk_at dksX0_explain_6 2 rfl rfl)
theorem dX0_explain_144 : decode cX0_explain 144 = .ok (.iload 8, 2) := dk_21 8 (dk_at dksX0_explain_6 4 rfl rfl)
theorem dX0_explain_146 : decode cX0_explain 146 = .ok (.iload 9, 2) := dk_21 9 (dk_at dksX0_explain_6 6 rfl rfl)
theorem dX0_explain_148 : decode cX0_explain 148 = .ok (.iload 10, 2) := dk_21 10 (dk_at dksX0_explain_6 8 rfl rfl)
theorem dX0_explain_150 : decode cX0_explain 150 = .ok (.invokevirtual 261, 3) := dk_182 1 5 (dk_at dksX0_explain_6 10 rfl rfl)
theorem dX0_explain_153 : decode cX0_explain 153 = .ok (.aload_n 0, 1) := dk_42 (dk_at dksX0_explain_6 13 rfl rfl)
theorem dX0_explain_154 : decode cX0_explain 154 = .ok (.aload 6, 2) := dk_25 6 (dk_at dksX0_explain_6 14 rfl rfl)
theorem dX0_explain_156 : decode cX0_explain 156 = .ok (.aload_n 0, 1) := dk_42 (dk_at dksX0_explain_6 16 rfl rfl)
theorem dX0_explain_157 : decode cX0_explain 157 = .ok (.getfield 11, 3) := dk_180 0 11 (dk_at dksX0_explain_6 17 rfl rfl)
theorem dX0_explain_160 : decode cX0_explain 160 = .ok (.iload_n 2, 1) := dk_28 (dk_at dksX0_explain_6 20 rfl rfl)
theorem dX0_explain_161 : decode cX0_explain 161 = .ok (.aaload, 1) := dk_50 (dk_at dksX0_explain_6 21 rfl rfl)
theorem dX0_explain_162 : decode cX0_explain 162 = .ok (.iload_n 3, 1) := dk_29 (dk_at dksX0_explain_6 22 rfl rfl)
theorem dX0_explain_163 : decode cX0_explain 163 = .ok (.invokevirtual 280, 3) := dk_182 1 24 (dk_at dksX0_explain_7 0 rfl rfl)
theorem dX0_explain_166 : decode cX0_explain 166 = .ok (.ifCond .ne 6, 3) := dk_154 0 6 (dk_at dksX0_explain_7 3 rfl rfl)
theorem dX0_explain_169 : decode cX0_explain 169 = .ok (.goto 46, 3) := dk_167 0 46 (dk_at dksX0_explain_7 6 rfl rfl)
theorem dX0_explain_172 : decode cX0_explain 172 = .ok (.aload_n 0, 1) := dk_42 (dk_at dksX0_explain_7 9 rfl rfl)
theorem dX0_explain_173 : decode cX0_explain 173 = .ok (.getfield 60, 3) := dk_180 0 60 (dk_at dksX0_explain_7 10 rfl rfl)
theorem dX0_explain_176 : decode cX0_explain 176 = .ok (.iconst 0, 1) := dk_3 (dk_at dksX0_explain_7 13 rfl rfl)
theorem dX0_explain_177 : decode cX0_explain 177 = .ok (.iload 7, 2) := dk_21 7 (dk_at dksX0_explain_7 14 rfl rfl)
theorem dX0_explain_179 : decode cX0_explain 179 = .ok (.iastore, 1) := dk_79 (dk_at dksX0_explain_7 16 rfl rfl)
theorem dX0_explain_180 : decode cX0_explain 180 = .ok (.aload_n 0, 1) := dk_42 (dk_at dksX0_explain_7 17 rfl rfl)
theorem dX0_explain_181 : decode cX0_explain 181 = .ok (.getfield 60, 3) := dk_180 0 60 (dk_at dksX0_explain_7 18 rfl rfl)
theorem dX0_explain_184 : decode cX0_explain 184 = .ok (.iconst 1, 1) := dk_4 (dk_at dksX0_explain_7 21 rfl rfl)
theorem dX0_explain_185 : decode cX0_explain 185 = .ok (.iload 8, 2) := dk_21 8 (dk_at dksX0_explain_7 22 rfl rfl)
theorem dX0_explain_187 : decode cX0_explain 187 = .ok (.iastore, 1) := dk_79 (dk_at dksX0_explain_8 0 rfl rfl)
theorem dX0_explain_188 : decode cX0_explain 188 = .ok (.aload_n 0, 1) := dk_42 (dk_at dksX0_explain_8 1 rfl rfl)
theorem dX0_explain_189 : decode cX0_explain 189 = .ok (.getfield 60, 3) := dk_180 0 60 (dk_at dksX0_explain_8 2 rfl rfl)
theorem dX0_explain_192 : decode cX0_explain 192 = .ok (.iconst 2, 1) := dk_5 (dk_at dksX0_explain_8 5 rfl rfl)
theorem dX0_explain_193 : decode cX0_explain 193 = .ok (.iload 9, 2) := dk_21 9 (dk_at dksX0_explain_8 6 rfl rfl)
theorem dX0_explain_195 : decode cX0_explain 195 = .ok (.iastore, 1) := dk_79 (dk_at dksX0_explain_8 8 rfl rfl)
theorem dX0_explain_196 : decode cX0_explain 196 = .ok (.aload_n 0, 1) := dk_42 (dk_at dksX0_explain_8 9 rfl rfl)
theorem dX0_explain_197 : decode cX0_explain 197 = .ok (.getfield 60, 3) := dk_180 0 60 (dk_at dksX0_explain_8 10 rfl rfl)
theorem dX0_explain_200 : decode cX0_explain 200 = .ok (.iconst 3, 1) := dk_6 (dk_at dksX0_explain_8 13 rfl rfl)
theorem dX0_explain_201 : decode cX0_explain 201 = .ok (.iload 10, 2) := dk_21 10 (dk_at dksX0_explain_8 14 rfl rfl)
theorem dX0_explain_203 : decode cX0_explain 203 = .ok (.iastore, 1) := dk_79 (dk_at dksX0_explain_8 16 rfl rfl)
theorem dX0_explain_204 : decode cX0_explain 204 = .ok (.aload_n 0, 1) := dk_42 (dk_at dksX0_explain_8 17 rfl rfl)
theorem dX0_explain_205 : decode cX0_explain 205 = .ok (.iconst 1, 1) := dk_4 (dk_at dksX0_explain_8 18 rfl rfl)
theorem dX0_explain_206 : decode cX0_explain 206 = .ok (.putfield 284, 3) := dk_181 1 28 (dk_at dksX0_explain_8 19 rfl rfl)
theorem dX0_explain_209 : decode cX0_explain 209 = .ok (.aload_n 0, 1) := dk_42 (dk_at dksX0_explain_8 22 rfl rfl)
theorem dX0_explain_210 : decode cX0_explain 210 = .ok (.iconst 1, 1) := dk_4 (dk_at dksX0_explain_8 23 rfl rfl)
theorem dX0_explain_211 : decode cX0_explain 211 = .ok (.invokevirtual 215, 3) := dk_182 0 215 (dk_at dksX0_explain_9 0 rfl rfl)
theorem dX0_explain_214 : decode cX0_explain 214 = .ok (.ireturn, 1) := dk_172 (dk_at dksX0_explain_9 3 rfl rfl)
theorem dX0_explain_215 : decode cX0_explain 215 = .ok (.iinc 10 1, 3) := dk_132 10 1 (dk_at dksX0_explain_9 4 rfl rfl)
theorem dX0_explain_218 : decode cX0_explain 218 = .ok (.goto (-91), 3) := dk_167 255 165 (dk_at dksX0_explain_9 7 rfl rfl)
theorem dX0_explain_221 : decode cX0_explain 221 = .ok (.iinc 9 1, 3) := dk_132 9 1 (dk_at dksX0_explain_9 10 rfl rfl)
theorem dX0_explain_224 : decode cX0_explain 224 = .ok (.goto (-110), 3) := dk_167 255 146 (dk_at dksX0_explain_9 13 rfl rfl)
theorem dX0_explain_227 : decode cX0_explain 227 = .ok (.iinc 8 1, 3) := dk_132 8 1 (dk_at dksX0_explain_9 16 rfl rfl)
theorem dX0_explain_230 : decode cX0_explain 230 = .ok (.goto (-131), 3) := dk_167 255 125 (dk_at dksX0_explain_9 19 rfl rfl)
theorem dX0_explain_233 : decode cX0_explain 233 = .ok (.iinc 7 1, 3) := dk_132 7 1 (dk_at dksX0_explain_10 0 rfl rfl)
theorem dX0_explain_236 : decode cX0_explain 236 = .ok (.goto (-146), 3) := dk_167 255 110 (dk_at dksX0_explain_10 3 rfl rfl)
theorem dX0_explain_239 : decode cX0_explain 239 = .ok (.aload_n 0, 1) := dk_42 (dk_at dksX0_explain_10 6 rfl rfl)
theorem dX0_explain_240 : decode cX0_explain 240 = .ok (.bipush 8, 2) := dk_16 8 (dk_at dksX0_explain_10 7 rfl rfl)
theorem dX0_explain_242 : decode cX0_explain 242 = .ok (.invokevirtual 169, 3) := dk_182 0 169 (dk_at dksX0_explain_10 9 rfl rfl)
theorem dX0_explain_245 : decode cX0_explain 245 = .ok (.ireturn, 1) := dk_172 (dk_at dksX0_explain_10 12 rfl rfl)
abbrev cX0_makes : ByteArray := prog_1_method_25_code
def yX0_makes : MethodName := ⟨RX0, "makes", "(LWheelTables$Engine;LWheelTables$Tray;I)Z"⟩
def dkwX0_makes_1 : List UInt8 := [21, 4, 182, 0, 173, 148, 153, 0, 5, 3, 172, 132, 4, 1, 167, 255, 222, 4, 172]
abbrev dktX0_makes_1 : List UInt8 := dkwX0_makes_1 ++ []
def dkwX0_makes_0 : List UInt8 := [3, 54, 4, 21, 4, 29, 162, 0, 34, 43, 182, 1, 9, 44, 43, 3, 182, 0, 234, 182, 1, 16, 44]
abbrev dktX0_makes_0 : List UInt8 := dkwX0_makes_0 ++ dktX0_makes_1
theorem dksX0_makes_0 : cX0_makes.data.toList.drop 0 = dktX0_makes_0 := by decide +kernel
theorem dksX0_makes_1 : cX0_makes.data.toList.drop 23 = dktX0_makes_1 := dk_seg dksX0_makes_0 23 rfl rfl
theorem dX0_makes_0 : decode cX0_makes 0 = .ok (.iconst 0, 1) := dk_3 (dk_at dksX0_makes_0 0 rfl rfl)
theorem dX0_makes_1 : decode cX0_makes 1 = .ok (.istore 4, 2) := dk_54 4 (dk_at dksX0_makes_0 1 rfl rfl)
theorem dX0_makes_3 : decode cX0_makes 3 = .ok (.iload 4, 2) := dk_21 4 (dk_at dksX0_makes_0 3 rfl rfl)
theorem dX0_makes_5 : decode cX0_makes 5 = .ok (.iload_n 3, 1) := dk_29 (dk_at dksX0_makes_0 5 rfl rfl)
theorem dX0_makes_6 : decode cX0_makes 6 = .ok (.if_icmp .ge 34, 3) := dk_162 0 34 (dk_at dksX0_makes_0 6 rfl rfl)
theorem dX0_makes_9 : decode cX0_makes 9 = .ok (.aload_n 1, 1) := dk_43 (dk_at dksX0_makes_0 9 rfl rfl)
theorem dX0_makes_10 : decode cX0_makes 10 = .ok (.invokevirtual 265, 3) := dk_182 1 9 (dk_at dksX0_makes_0 10 rfl rfl)
theorem dX0_makes_13 : decode cX0_makes 13 = .ok (.aload_n 2, 1) := dk_44 (dk_at dksX0_makes_0 13 rfl rfl)
theorem dX0_makes_14 : decode cX0_makes 14 = .ok (.aload_n 1, 1) := dk_43 (dk_at dksX0_makes_0 14 rfl rfl)
theorem dX0_makes_15 : decode cX0_makes 15 = .ok (.iconst 0, 1) := dk_3 (dk_at dksX0_makes_0 15 rfl rfl)
theorem dX0_makes_16 : decode cX0_makes 16 = .ok (.invokevirtual 234, 3) := dk_182 0 234 (dk_at dksX0_makes_0 16 rfl rfl)
theorem dX0_makes_19 : decode cX0_makes 19 = .ok (.invokevirtual 272, 3) := dk_182 1 16 (dk_at dksX0_makes_0 19 rfl rfl)
theorem dX0_makes_22 : decode cX0_makes 22 = .ok (.aload_n 2, 1) := dk_44 (dk_at dksX0_makes_0 22 rfl rfl)
theorem dX0_makes_23 : decode cX0_makes 23 = .ok (.iload 4, 2) := dk_21 4 (dk_at dksX0_makes_1 0 rfl rfl)
theorem dX0_makes_25 : decode cX0_makes 25 = .ok (.invokevirtual 173, 3) := dk_182 0 173 (dk_at dksX0_makes_1 2 rfl rfl)
theorem dX0_makes_28 : decode cX0_makes 28 = .ok (.lcmp, 1) := dk_148 (dk_at dksX0_makes_1 5 rfl rfl)
theorem dX0_makes_29 : decode cX0_makes 29 = .ok (.ifCond .eq 5, 3) := dk_153 0 5 (dk_at dksX0_makes_1 6 rfl rfl)
theorem dX0_makes_32 : decode cX0_makes 32 = .ok (.iconst 0, 1) := dk_3 (dk_at dksX0_makes_1 9 rfl rfl)
theorem dX0_makes_33 : decode cX0_makes 33 = .ok (.ireturn, 1) := dk_172 (dk_at dksX0_makes_1 10 rfl rfl)
theorem dX0_makes_34 : decode cX0_makes 34 = .ok (.iinc 4 1, 3) := dk_132 4 1 (dk_at dksX0_makes_1 11 rfl rfl)
theorem dX0_makes_37 : decode cX0_makes 37 = .ok (.goto (-34), 3) := dk_167 255 222 (dk_at dksX0_makes_1 14 rfl rfl)
theorem dX0_makes_40 : decode cX0_makes 40 = .ok (.iconst 1, 1) := dk_4 (dk_at dksX0_makes_1 17 rfl rfl)
theorem dX0_makes_41 : decode cX0_makes 41 = .ok (.ireturn, 1) := dk_172 (dk_at dksX0_makes_1 18 rfl rfl)
abbrev cX0_because : ByteArray := prog_1_method_27_code
def yX0_because : MethodName := ⟨RX0, "because", "(I)I"⟩
def dkwX0_because_1 : List UInt8 := [180, 0, 60, 27, 46, 182, 0, 215, 167, 0, 9, 42, 16, 8, 182, 0, 169, 172]
abbrev dktX0_because_1 : List UInt8 := dkwX0_because_1 ++ []
def dkwX0_because_0 : List UInt8 := [27, 155, 0, 8, 27, 6, 164, 0, 9, 42, 8, 182, 0, 169, 172, 42, 180, 1, 28, 153, 0, 16, 42, 42]
abbrev dktX0_because_0 : List UInt8 := dkwX0_because_0 ++ dktX0_because_1
theorem dksX0_because_0 : cX0_because.data.toList.drop 0 = dktX0_because_0 := by decide +kernel
theorem dksX0_because_1 : cX0_because.data.toList.drop 24 = dktX0_because_1 := dk_seg dksX0_because_0 24 rfl rfl
theorem dX0_because_0 : decode cX0_because 0 = .ok (.iload_n 1, 1) := dk_27 (dk_at dksX0_because_0 0 rfl rfl)
theorem dX0_because_1 : decode cX0_because 1 = .ok (.ifCond .lt 8, 3) := dk_155 0 8 (dk_at dksX0_because_0 1 rfl rfl)
theorem dX0_because_4 : decode cX0_because 4 = .ok (.iload_n 1, 1) := dk_27 (dk_at dksX0_because_0 4 rfl rfl)
theorem dX0_because_5 : decode cX0_because 5 = .ok (.iconst 3, 1) := dk_6 (dk_at dksX0_because_0 5 rfl rfl)
theorem dX0_because_6 : decode cX0_because 6 = .ok (.if_icmp .le 9, 3) := dk_164 0 9 (dk_at dksX0_because_0 6 rfl rfl)
theorem dX0_because_9 : decode cX0_because 9 = .ok (.aload_n 0, 1) := dk_42 (dk_at dksX0_because_0 9 rfl rfl)
theorem dX0_because_10 : decode cX0_because 10 = .ok (.iconst 5, 1) := dk_8 (dk_at dksX0_because_0 10 rfl rfl)
theorem dX0_because_11 : decode cX0_because 11 = .ok (.invokevirtual 169, 3) := dk_182 0 169 (dk_at dksX0_because_0 11 rfl rfl)
theorem dX0_because_14 : decode cX0_because 14 = .ok (.ireturn, 1) := dk_172 (dk_at dksX0_because_0 14 rfl rfl)
theorem dX0_because_15 : decode cX0_because 15 = .ok (.aload_n 0, 1) := dk_42 (dk_at dksX0_because_0 15 rfl rfl)
theorem dX0_because_16 : decode cX0_because 16 = .ok (.getfield 284, 3) := dk_180 1 28 (dk_at dksX0_because_0 16 rfl rfl)
theorem dX0_because_19 : decode cX0_because 19 = .ok (.ifCond .eq 16, 3) := dk_153 0 16 (dk_at dksX0_because_0 19 rfl rfl)
theorem dX0_because_22 : decode cX0_because 22 = .ok (.aload_n 0, 1) := dk_42 (dk_at dksX0_because_0 22 rfl rfl)
theorem dX0_because_23 : decode cX0_because 23 = .ok (.aload_n 0, 1) := dk_42 (dk_at dksX0_because_0 23 rfl rfl)
theorem dX0_because_24 : decode cX0_because 24 = .ok (.getfield 60, 3) := dk_180 0 60 (dk_at dksX0_because_1 0 rfl rfl)
theorem dX0_because_27 : decode cX0_because 27 = .ok (.iload_n 1, 1) := dk_27 (dk_at dksX0_because_1 3 rfl rfl)
theorem dX0_because_28 : decode cX0_because 28 = .ok (.iaload, 1) := dk_46 (dk_at dksX0_because_1 4 rfl rfl)
theorem dX0_because_29 : decode cX0_because 29 = .ok (.invokevirtual 215, 3) := dk_182 0 215 (dk_at dksX0_because_1 5 rfl rfl)
theorem dX0_because_32 : decode cX0_because 32 = .ok (.goto 9, 3) := dk_167 0 9 (dk_at dksX0_because_1 8 rfl rfl)
theorem dX0_because_35 : decode cX0_because 35 = .ok (.aload_n 0, 1) := dk_42 (dk_at dksX0_because_1 11 rfl rfl)
theorem dX0_because_36 : decode cX0_because 36 = .ok (.bipush 8, 2) := dk_16 8 (dk_at dksX0_because_1 12 rfl rfl)
theorem dX0_because_38 : decode cX0_because 38 = .ok (.invokevirtual 169, 3) := dk_182 0 169 (dk_at dksX0_because_1 14 rfl rfl)
theorem dX0_because_41 : decode cX0_because 41 = .ok (.ireturn, 1) := dk_172 (dk_at dksX0_because_1 17 rfl rfl)
abbrev cX0_finer : ByteArray := prog_1_method_31_code
def yX0_finer : MethodName := ⟨RX0, "finer", "(IIII)I"⟩
def dkwX0_finer_15 : List UInt8 := [55, 6, 132, 8, 1, 167, 255, 218, 42, 16, 8, 182, 0, 169, 172]
abbrev dktX0_finer_15 : List UInt8 := dkwX0_finer_15 ++ []
def dkwX0_finer_14 : List UInt8 := [21, 4, 22, 6, 182, 1, 55, 153, 0, 10, 42, 21, 8, 182, 0, 215, 172, 22, 6, 20, 1, 59, 105]
abbrev dktX0_finer_14 : List UInt8 := dkwX0_finer_14 ++ dktX0_finer_15
def dkwX0_finer_13 : List UInt8 := [80, 132, 6, 1, 167, 255, 214, 10, 55, 6, 3, 54, 8, 21, 8, 16, 6, 163, 0, 37, 42, 28, 29]
abbrev dktX0_finer_13 : List UInt8 := dkwX0_finer_13 ++ dktX0_finer_14
def dkwX0_finer_12 : List UInt8 := [112, 154, 0, 10, 42, 28, 4, 96, 182, 0, 249, 42, 180, 0, 67, 21, 6, 42, 180, 0, 56, 21, 6, 47]
abbrev dktX0_finer_12 : List UInt8 := dkwX0_finer_12 ++ dktX0_finer_13
def dkwX0_finer_11 : List UInt8 := [42, 28, 4, 96, 182, 0, 245, 3, 54, 6, 21, 6, 28, 163, 0, 42, 21, 6, 158, 0, 17, 21, 6, 5]
abbrev dktX0_finer_11 : List UInt8 := dkwX0_finer_11 ++ dktX0_finer_12
def dkwX0_finer_10 : List UInt8 := [163, 0, 24, 42, 180, 0, 56, 21, 6, 42, 21, 6, 28, 29, 182, 1, 47, 80, 132, 6, 1, 167, 255, 232]
abbrev dktX0_finer_10 : List UInt8 := dkwX0_finer_10 ++ dktX0_finer_11
def dkwX0_finer_9 : List UInt8 := [29, 133, 21, 6, 133, 10, 97, 105, 105, 181, 1, 39, 132, 6, 1, 167, 255, 230, 3, 54, 6, 21, 6, 28]
abbrev dktX0_finer_9 : List UInt8 := dkwX0_finer_9 ++ dktX0_finer_10
def dkwX0_finer_8 : List UInt8 := [4, 96, 184, 0, 185, 42, 10, 181, 1, 39, 3, 54, 6, 21, 6, 28, 162, 0, 26, 42, 89, 180, 1, 39]
abbrev dktX0_finer_8 : List UInt8 := dkwX0_finer_8 ++ dktX0_finer_9
def dkwX0_finer_7 : List UInt8 := [132, 6, 1, 167, 255, 233, 42, 28, 4, 96, 182, 0, 245, 42, 180, 0, 56, 3, 42, 180, 0, 64, 3, 28]
abbrev dktX0_finer_7 : List UInt8 := dkwX0_finer_7 ++ dktX0_finer_8
def dkwX0_finer_6 : List UInt8 := [54, 6, 21, 6, 28, 163, 0, 23, 42, 180, 0, 56, 21, 6, 25, 5, 21, 6, 182, 0, 173, 80]
abbrev dktX0_finer_6 : List UInt8 := dkwX0_finer_6 ++ dktX0_finer_7
def dkwX0_finer_5 : List UInt8 := [182, 0, 173, 20, 1, 53, 148, 158, 0, 9, 42, 8, 182, 0, 169, 172, 132, 6, 1, 167, 255, 213, 3]
abbrev dktX0_finer_5 : List UInt8 := dkwX0_finer_5 ++ dktX0_finer_6
def dkwX0_finer_4 : List UInt8 := [28, 163, 0, 43, 25, 5, 21, 6, 182, 0, 173, 20, 1, 51, 148, 155, 0, 17, 25, 5, 21, 6]
abbrev dktX0_finer_4 : List UInt8 := dkwX0_finer_4 ++ dktX0_finer_5
def dkwX0_finer_3 : List UInt8 := [182, 0, 169, 172, 25, 5, 182, 0, 204, 28, 163, 0, 9, 42, 7, 182, 0, 169, 172, 3, 54, 6, 21, 6]
abbrev dktX0_finer_3 : List UInt8 := dkwX0_finer_3 ++ dktX0_finer_4
def dkwX0_finer_2 : List UInt8 := [161, 0, 22, 29, 16, 20, 163, 0, 16, 21, 4, 4, 161, 0, 10, 21, 4, 16, 60, 164, 0, 9, 42, 8]
abbrev dktX0_finer_2 : List UInt8 := dkwX0_finer_2 ++ dktX0_finer_3
def dkwX0_finer_1 : List UInt8 := [180, 0, 179, 199, 0, 9, 42, 6, 182, 0, 169, 172, 28, 4, 161, 0, 32, 28, 7, 163, 0, 27, 29, 5]
abbrev dktX0_finer_1 : List UInt8 := dkwX0_finer_1 ++ dktX0_finer_2
def dkwX0_finer_0 : List UInt8 := [27, 184, 0, 148, 154, 0, 9, 42, 4, 182, 0, 169, 172, 42, 180, 0, 11, 27, 50, 58, 5, 25, 5]
abbrev dktX0_finer_0 : List UInt8 := dkwX0_finer_0 ++ dktX0_finer_1
theorem dksX0_finer_0 : cX0_finer.data.toList.drop 0 = dktX0_finer_0 := by decide +kernel
theorem dksX0_finer_1 : cX0_finer.data.toList.drop 23 = dktX0_finer_1 := dk_seg dksX0_finer_0 23 rfl rfl
theorem dksX0_finer_2 : cX0_finer.data.toList.drop 47 = dktX0_finer_2 := dk_seg dksX0_finer_1 24 rfl rfl
theorem dksX0_finer_3 : cX0_finer.data.toList.drop 71 = dktX0_finer_3 := dk_seg dksX0_finer_2 24 rfl rfl
theorem dksX0_finer_4 : cX0_finer.data.toList.drop 95 = dktX0_finer_4 := dk_seg dksX0_finer_3 24 rfl rfl
theorem dksX0_finer_5 : cX0_finer.data.toList.drop 117 = dktX0_finer_5 := dk_seg dksX0_finer_4 22 rfl rfl
theorem dksX0_finer_6 : cX0_finer.data.toList.drop 140 = dktX0_finer_6 := dk_seg dksX0_finer_5 23 rfl rfl
theorem dksX0_finer_7 : cX0_finer.data.toList.drop 162 = dktX0_finer_7 := dk_seg dksX0_finer_6 22 rfl rfl
theorem dksX0_finer_8 : cX0_finer.data.toList.drop 186 = dktX0_finer_8 := dk_seg dksX0_finer_7 24 rfl rfl
theorem dksX0_finer_9 : cX0_finer.data.toList.drop 210 = dktX0_finer_9 := dk_seg dksX0_finer_8 24 rfl rfl
theorem dksX0_finer_10 : cX0_finer.data.toList.drop 234 = dktX0_finer_10 := dk_seg dksX0_finer_9 24 rfl rfl
theorem dksX0_finer_11 : cX0_finer.data.toList.drop 258 = dktX0_finer_11 := dk_seg dksX0_finer_10 24 rfl rfl
theorem dksX0_finer_12 : cX0_finer.data.toList.drop 282 = dktX0_finer_12 := dk_seg dksX0_finer_11 24 rfl rfl
theorem dksX0_finer_13 : cX0_finer.data.toList.drop 306 = dktX0_finer_13 := dk_seg dksX0_finer_12 24 rfl rfl
theorem dksX0_finer_14 : cX0_finer.data.toList.drop 329 = dktX0_finer_14 := dk_seg dksX0_finer_13 23 rfl rfl
theorem dksX0_finer_15 : cX0_finer.data.toList.drop 352 = dktX0_finer_15 := dk_seg dksX0_finer_14 23 rfl rfl
theorem dX0_finer_0 : decode cX0_finer 0 = .ok (.iload_n 1, 1) := dk_27 (dk_at dksX0_finer_0 0 rfl rfl)
theorem dX0_finer_1 : decode cX0_finer 1 = .ok (.invokestatic 148, 3) := dk_184 0 148 (dk_at dksX0_finer_0 1 rfl rfl)
theorem dX0_finer_4 : decode cX0_finer 4 = .ok (.ifCond .ne 9, 3) := dk_154 0 9 (dk_at dksX0_finer_0 4 rfl rfl)
theorem dX0_finer_7 : decode cX0_finer 7 = .ok (.aload_n 0, 1) := dk_42 (dk_at dksX0_finer_0 7 rfl rfl)
theorem dX0_finer_8 : decode cX0_finer 8 = .ok (.iconst 1, 1) := dk_4 (dk_at dksX0_finer_0 8 rfl rfl)
theorem dX0_finer_9 : decode cX0_finer 9 = .ok (.invokevirtual 169, 3) := dk_182 0 169 (dk_at dksX0_finer_0 9 rfl rfl)
theorem dX0_finer_12 : decode cX0_finer 12 = .ok (.ireturn, 1) := dk_172 (dk_at dksX0_finer_0 12 rfl rfl)
theorem dX0_finer_13 : decode cX0_finer 13 = .ok (.aload_n 0, 1) := dk_42 (dk_at dksX0_finer_0 13 rfl rfl)
theorem dX0_finer_14 : decode cX0_finer 14 = .ok (.getfield 11, 3) := dk_180 0 11 (dk_at dksX0_finer_0 14 rfl rfl)
theorem dX0_finer_17 : decode cX0_finer 17 = .ok (.iload_n 1, 1) := dk_27 (dk_at dksX0_finer_0 17 rfl rfl)
theorem dX0_finer_18 : decode cX0_finer 18 = .ok (.aaload, 1) := dk_50 (dk_at dksX0_finer_0 18 rfl rfl)
theorem dX0_finer_19 : decode cX0_finer 19 = .ok (.astore 5, 2) := dk_58 5 (dk_at dksX0_finer_0 19 rfl rfl)
theorem dX0_finer_21 : decode cX0_finer 21 = .ok (.aload 5, 2) := dk_25 5 (dk_at dksX0_finer_0 21 rfl rfl)
theorem dX0_finer_23 : decode cX0_finer 23 = .ok (.getfield 179, 3) := dk_180 0 179 (dk_at dksX0_finer_1 0 rfl rfl)
theorem dX0_finer_26 : decode cX0_finer 26 = .ok (.ifnonnull 9, 3) := dk_199 0 9 (dk_at dksX0_finer_1 3 rfl rfl)
theorem dX0_finer_29 : decode cX0_finer 29 = .ok (.aload_n 0, 1) := dk_42 (dk_at dksX0_finer_1 6 rfl rfl)
theorem dX0_finer_30 : decode cX0_finer 30 = .ok (.iconst 3, 1) := dk_6 (dk_at dksX0_finer_1 7 rfl rfl)
theorem dX0_finer_31 : decode cX0_finer 31 = .ok (.invokevirtual 169, 3) := dk_182 0 169 (dk_at dksX0_finer_1 8 rfl rfl)
theorem dX0_finer_34 : decode cX0_finer 34 = .ok (.ireturn, 1) := dk_172 (dk_at dksX0_finer_1 11 rfl rfl)
theorem dX0_finer_35 : decode cX0_finer 35 = .ok (.iload_n 2, 1) := dk_28 (dk_at dksX0_finer_1 12 rfl rfl)
theorem dX0_finer_36 : decode cX0_finer 36 = .ok (.iconst 1, 1) := dk_4 (dk_at dksX0_finer_1 13 rfl rfl)
theorem dX0_finer_37 : decode cX0_finer 37 = .ok (.if_icmp .lt 32, 3) := dk_161 0 32 (dk_at dksX0_finer_1 14 rfl rfl)
theorem dX0_finer_40 : decode cX0_finer 40 = .ok (.iload_n 2, 1) := dk_28 (dk_at dksX0_finer_1 17 rfl rfl)
theorem dX0_finer_41 : decode cX0_finer 41 = .ok (.iconst 4, 1) := dk_7 (dk_at dksX0_finer_1 18 rfl rfl)
theorem dX0_finer_42 : decode cX0_finer 42 = .ok (.if_icmp .gt 27, 3) := dk_163 0 27 (dk_at dksX0_finer_1 19 rfl rfl)
theorem dX0_finer_45 : decode cX0_finer 45 = .ok (.iload_n 3, 1) := dk_29 (dk_at dksX0_finer_1 22 rfl rfl)
theorem dX0_finer_46 : decode cX0_finer 46 = .ok (.iconst 2, 1) := dk_5 (dk_at dksX0_finer_1 23 rfl rfl)
theorem dX0_finer_47 : decode cX0_finer 47 = .ok (.if_icmp .lt 22, 3) := dk_161 0 22 (dk_at dksX0_finer_2 0 rfl rfl)
theorem dX0_finer_50 : decode cX0_finer 50 = .ok (.iload_n 3, 1) := dk_29 (dk_at dksX0_finer_2 3 rfl rfl)
theorem dX0_finer_51 : decode cX0_finer 51 = .ok (.bipush 20, 2) := dk_16 20 (dk_at dksX0_finer_2 4 rfl rfl)
theorem dX0_finer_53 : decode cX0_finer 53 = .ok (.if_icmp .gt 16, 3) := dk_163 0 16 (dk_at dksX0_finer_2 6 rfl rfl)
theorem dX0_finer_56 : decode cX0_finer 56 = .ok (.iload 4, 2) := dk_21 4 (dk_at dksX0_finer_2 9 rfl rfl)
theorem dX0_finer_58 : decode cX0_finer 58 = .ok (.iconst 1, 1) := dk_4 (dk_at dksX0_finer_2 11 rfl rfl)
theorem dX0_finer_59 : decode cX0_finer 59 = .ok (.if_icmp .lt 10, 3) := dk_161 0 10 (dk_at dksX0_finer_2 12 rfl rfl)
theorem dX0_finer_62 : decode cX0_finer 62 = .ok (.iload 4, 2) := dk_21 4 (dk_at dksX0_finer_2 15 rfl rfl)
theorem dX0_finer_64 : decode cX0_finer 64 = .ok (.bipush 60, 2) := dk_16 60 (dk_at dksX0_finer_2 17 rfl rfl)
theorem dX0_finer_66 : decode cX0_finer 66 = .ok (.if_icmp .le 9, 3) := dk_164 0 9 (dk_at dksX0_finer_2 19 rfl rfl)
theorem dX0_finer_69 : decode cX0_finer 69 = .ok (.aload_n 0, 1) := dk_42 (dk_at dksX0_finer_2 22 rfl rfl)
theorem dX0_finer_70 : decode cX0_finer 70 = .ok (.iconst 5, 1) := dk_8 (dk_at dksX0_finer_2 23 rfl rfl)
theorem dX0_finer_71 : decode cX0_finer 71 = .ok (.invokevirtual 169, 3) := dk_182 0 169 (dk_at dksX0_finer_3 0 rfl rfl)
theorem dX0_finer_74 : decode cX0_finer 74 = .ok (.ireturn, 1) := dk_172 (dk_at dksX0_finer_3 3 rfl rfl)
theorem dX0_finer_75 : decode cX0_finer 75 = .ok (.aload 5, 2) := dk_25 5 (dk_at dksX0_finer_3 4 rfl rfl)
theorem dX0_finer_77 : decode cX0_finer 77 = .ok (.invokevirtual 204, 3) := dk_182 0 204 (dk_at dksX0_finer_3 6 rfl rfl)
theorem dX0_finer_80 : decode cX0_finer 80 = .ok (.iload_n 2, 1) := dk_28 (dk_at dksX0_finer_3 9 rfl rfl)
theorem dX0_finer_81 : decode cX0_finer 81 = .ok (.if_icmp .gt 9, 3) := dk_163 0 9 (dk_at dksX0_finer_3 10 rfl rfl)
theorem dX0_finer_84 : decode cX0_finer 84 = .ok (.aload_n 0, 1) := dk_42 (dk_at dksX0_finer_3 13 rfl rfl)
theorem dX0_finer_85 : decode cX0_finer 85 = .ok (.iconst 4, 1) := dk_7 (dk_at dksX0_finer_3 14 rfl rfl)
theorem dX0_finer_86 : decode cX0_finer 86 = .ok (.invokevirtual 169, 3) := dk_182 0 169 (dk_at dksX0_finer_3 15 rfl rfl)
theorem dX0_finer_89 : decode cX0_finer 89 = .ok (.ireturn, 1) := dk_172 (dk_at dksX0_finer_3 18 rfl rfl)
theorem dX0_finer_90 : decode cX0_finer 90 = .ok (.iconst 0, 1) := dk_3 (dk_at dksX0_finer_3 19 rfl rfl)
theorem dX0_finer_91 : decode cX0_finer 91 = .ok (.istore 6, 2) := dk_54 6 (dk_at dksX0_finer_3 20 rfl rfl)
theorem dX0_finer_93 : decode cX0_finer 93 = .ok (.iload 6, 2) := dk_21 6 (dk_at dksX0_finer_3 22 rfl rfl)
theorem dX0_finer_95 : decode cX0_finer 95 = .ok (.iload_n 2, 1) := dk_28 (dk_at dksX0_finer_4 0 rfl rfl)
theorem dX0_finer_96 : decode cX0_finer 96 = .ok (.if_icmp .gt 43, 3) := dk_163 0 43 (dk_at dksX0_finer_4 1 rfl rfl)
theorem dX0_finer_99 : decode cX0_finer 99 = .ok (.aload 5, 2) := dk_25 5 (dk_at dksX0_finer_4 4 rfl rfl)
theorem dX0_finer_101 : decode cX0_finer 101 = .ok (.iload 6, 2) := dk_21 6 (dk_at dksX0_finer_4 6 rfl rfl)
theorem dX0_finer_103 : decode cX0_finer 103 = .ok (.invokevirtual 173, 3) := dk_182 0 173 (dk_at dksX0_finer_4 8 rfl rfl)
theorem dX0_finer_106 : decode cX0_finer 106 = .ok (.ldc2_w 307, 3) := dk_20 1 51 (dk_at dksX0_finer_4 11 rfl rfl)
theorem dX0_finer_109 : decode cX0_finer 109 = .ok (.lcmp, 1) := dk_148 (dk_at dksX0_finer_4 14 rfl rfl)
theorem dX0_finer_110 : decode cX0_finer 110 = .ok (.ifCond .lt 17, 3) := dk_155 0 17 (dk_at dksX0_finer_4 15 rfl rfl)
theorem dX0_finer_113 : decode cX0_finer 113 = .ok (.aload 5, 2) := dk_25 5 (dk_at dksX0_finer_4 18 rfl rfl)
theorem dX0_finer_115 : decode cX0_finer 115 = .ok (.iload 6, 2) := dk_21 6 (dk_at dksX0_finer_4 20 rfl rfl)
theorem dX0_finer_117 : decode cX0_finer 117 = .ok (.invokevirtual 173, 3) := dk_182 0 173 (dk_at dksX0_finer_5 0 rfl rfl)
theorem dX0_finer_120 : decode cX0_finer 120 = .ok (.ldc2_w 309, 3) := dk_20 1 53 (dk_at dksX0_finer_5 3 rfl rfl)
theorem dX0_finer_123 : decode cX0_finer 123 = .ok (.lcmp, 1) := dk_148 (dk_at dksX0_finer_5 6 rfl rfl)
theorem dX0_finer_124 : decode cX0_finer 124 = .ok (.ifCond .le 9, 3) := dk_158 0 9 (dk_at dksX0_finer_5 7 rfl rfl)
theorem dX0_finer_127 : decode cX0_finer 127 = .ok (.aload_n 0, 1) := dk_42 (dk_at dksX0_finer_5 10 rfl rfl)
theorem dX0_finer_128 : decode cX0_finer 128 = .ok (.iconst 5, 1) := dk_8 (dk_at dksX0_finer_5 11 rfl rfl)
theorem dX0_finer_129 : decode cX0_finer 129 = .ok (.invokevirtual 169, 3) := dk_182 0 169 (dk_at dksX0_finer_5 12 rfl rfl)
theorem dX0_finer_132 : decode cX0_finer 132 = .ok (.ireturn, 1) := dk_172 (dk_at dksX0_finer_5 15 rfl rfl)
theorem dX0_finer_133 : decode cX0_finer 133 = .ok (.iinc 6 1, 3) := dk_132 6 1 (dk_at dksX0_finer_5 16 rfl rfl)
theorem dX0_finer_136 : decode cX0_finer 136 = .ok (.goto (-43), 3) := dk_167 255 213 (dk_at dksX0_finer_5 19 rfl rfl)
theorem dX0_finer_139 : decode cX0_finer 139 = .ok (.iconst 0, 1) := dk_3 (dk_at dksX0_finer_5 22 rfl rfl)
theorem dX0_finer_140 : decode cX0_finer 140 = .ok (.istore 6, 2) := dk_54 6 (dk_at dksX0_finer_6 0 rfl rfl)
theorem dX0_finer_142 : decode cX0_finer 142 = .ok (.iload 6, 2) := dk_21 6 (dk_at dksX0_finer_6 2 rfl rfl)
theorem dX0_finer_144 : decode cX0_finer 144 = .ok (.iload_n 2, 1) := dk_28 (dk_at dksX0_finer_6 4 rfl rfl)
theorem dX0_finer_145 : decode cX0_finer 145 = .ok (.if_icmp .gt 23, 3) := dk_163 0 23 (dk_at dksX0_finer_6 5 rfl rfl)
theorem dX0_finer_148 : decode cX0_finer 148 = .ok (.aload_n 0, 1) := dk_42 (dk_at dksX0_finer_6 8 rfl rfl)
theorem dX0_finer_149 : decode cX0_finer 149 = .ok (.getfield 56, 3) := dk_180 0 56 (dk_at dksX0_finer_6 9 rfl rfl)
theorem dX0_finer_152 : decode cX0_finer 152 = .ok (.iload 6, 2) := dk_21 6 (dk_at dksX0_finer_6 12 rfl rfl)
theorem dX0_finer_154 : decode cX0_finer 154 = .ok (.aload 5, 2) := dk_25 5 (dk_at dksX0_finer_6 14 rfl rfl)
theorem dX0_finer_156 : decode cX0_finer 156 = .ok (.iload 6, 2) := dk_21 6 (dk_at dksX0_finer_6 16 rfl rfl)
theorem dX0_finer_158 : decode cX0_finer 158 = .ok (.invokevirtual 173, 3) := dk_182 0 173 (dk_at dksX0_finer_6 18 rfl rfl)
theorem dX0_finer_161 : decode cX0_finer 161 = .ok (.lastore, 1) := dk_80 (dk_at dksX0_finer_6 21 rfl rfl)
theorem dX0_finer_162 : decode cX0_finer 162 = .ok (.iinc 6 1, 3) := dk_132 6 1 (dk_at dksX0_finer_7 0 rfl rfl)
theorem dX0_finer_165 : decode cX0_finer 165 = .ok (.goto (-23), 3) := dk_167 255 233 (dk_at dksX0_finer_7 3 rfl rfl)
theorem dX0_finer_168 : decode cX0_finer 168 = .ok (.aload_n 0, 1) := dk_42 (dk_at dksX0_finer_7 6 rfl rfl)
theorem dX0_finer_169 : decode cX0_finer 169 = .ok (.iload_n 2, 1) := dk_28 (dk_at dksX0_finer_7 7 rfl rfl)
theorem dX0_finer_170 : decode cX0_finer 170 = .ok (.iconst 1, 1) := dk_4 (dk_at dksX0_finer_7 8 rfl rfl)
theorem dX0_finer_171 : decode cX0_finer 171 = .ok (.iadd, 1) := dk_96 (dk_at dksX0_finer_7 9 rfl rfl)
theorem dX0_finer_172 : decode cX0_finer 172 = .ok (.invokevirtual 245, 3) := dk_182 0 245 (dk_at dksX0_finer_7 10 rfl rfl)
theorem dX0_finer_175 : decode cX0_finer 175 = .ok (.aload_n 0, 1) := dk_42 (dk_at dksX0_finer_7 13 rfl rfl)
theorem dX0_finer_176 : decode cX0_finer 176 = .ok (.getfield 56, 3) := dk_180 0 56 (dk_at dksX0_finer_7 14 rfl rfl)
theorem dX0_finer_179 : decode cX0_finer 179 = .ok (.iconst 0, 1) := dk_3 (dk_at dksX0_finer_7 17 rfl rfl)
theorem dX0_finer_180 : decode cX0_finer 180 = .ok (.aload_n 0, 1) := dk_42 (dk_at dksX0_finer_7 18 rfl rfl)
theorem dX0_finer_181 : decode cX0_finer 181 = .ok (.getfield 64, 3) := dk_180 0 64 (dk_at dksX0_finer_7 19 rfl rfl)
theorem dX0_finer_184 : decode cX0_finer 184 = .ok (.iconst 0, 1) := dk_3 (dk_at dksX0_finer_7 22 rfl rfl)
theorem dX0_finer_185 : decode cX0_finer 185 = .ok (.iload_n 2, 1) := dk_28 (dk_at dksX0_finer_7 23 rfl rfl)
theorem dX0_finer_186 : decode cX0_finer 186 = .ok (.iconst 1, 1) := dk_4 (dk_at dksX0_finer_8 0 rfl rfl)
theorem dX0_finer_187 : decode cX0_finer 187 = .ok (.iadd, 1) := dk_96 (dk_at dksX0_finer_8 1 rfl rfl)
theorem dX0_finer_188 : decode cX0_finer 188 = .ok (.invokestatic 185, 3) := dk_184 0 185 (dk_at dksX0_finer_8 2 rfl rfl)
theorem dX0_finer_191 : decode cX0_finer 191 = .ok (.aload_n 0, 1) := dk_42 (dk_at dksX0_finer_8 5 rfl rfl)
theorem dX0_finer_192 : decode cX0_finer 192 = .ok (.lconst 1, 1) := dk_10 (dk_at dksX0_finer_8 6 rfl rfl)
theorem dX0_finer_193 : decode cX0_finer 193 = .ok (.putfield 295, 3) := dk_181 1 39 (dk_at dksX0_finer_8 7 rfl rfl)
theorem dX0_finer_196 : decode cX0_finer 196 = .ok (.iconst 0, 1) := dk_3 (dk_at dksX0_finer_8 10 rfl rfl)
theorem dX0_finer_197 : decode cX0_finer 197 = .ok (.istore 6, 2) := dk_54 6 (dk_at dksX0_finer_8 11 rfl rfl)
theorem dX0_finer_199 : decode cX0_finer 199 = .ok (.iload 6, 2) := dk_21 6 (dk_at dksX0_finer_8 13 rfl rfl)
theorem dX0_finer_201 : decode cX0_finer 201 = .ok (.iload_n 2, 1) := dk_28 (dk_at dksX0_finer_8 15 rfl rfl)
theorem dX0_finer_202 : decode cX0_finer 202 = .ok (.if_icmp .ge 26, 3) := dk_162 0 26 (dk_at dksX0_finer_8 16 rfl rfl)
theorem dX0_finer_205 : decode cX0_finer 205 = .ok (.aload_n 0, 1) := dk_42 (dk_at dksX0_finer_8 19 rfl rfl)
theorem dX0_finer_206 : decode cX0_finer 206 = .ok (.dup, 1) := dk_89 (dk_at dksX0_finer_8 20 rfl rfl)
theorem dX0_finer_207 : decode cX0_finer 207 = .ok (.getfield 295, 3) := dk_180 1 39 (dk_at dksX0_finer_8 21 rfl rfl)
theorem dX0_finer_210 : decode cX0_finer 210 = .ok (.iload_n 3, 1) := dk_29 (dk_at dksX0_finer_9 0 rfl rfl)
theorem dX0_finer_211 : decode cX0_finer 211 = .ok (.i2l, 1) := dk_133 (dk_at dksX0_finer_9 1 rfl rfl)
theorem dX0_finer_212 : decode cX0_finer 212 = .ok (.iload 6, 2) := dk_21 6 (dk_at dksX0_finer_9 2 rfl rfl)
theorem dX0_finer_214 : decode cX0_finer 214 = .ok (.i2l, 1) := dk_133 (dk_at dksX0_finer_9 4 rfl rfl)
theorem dX0_finer_215 : decode cX0_finer 215 = .ok (.lconst 1, 1) := dk_10 (dk_at dksX0_finer_9 5 rfl rfl)
theorem dX0_finer_216 : decode cX0_finer 216 = .ok (.ladd, 1) := dk_97 (dk_at dksX0_finer_9 6 rfl rfl)
theorem dX0_finer_217 : decode cX0_finer 217 = .ok (.lmul, 1) := dk_105 (dk_at dksX0_finer_9 7 rfl rfl)
theorem dX0_finer_218 : decode cX0_finer 218 = .ok (.lmul, 1) := dk_105 (dk_at dksX0_finer_9 8 rfl rfl)
theorem dX0_finer_219 : decode cX0_finer 219 = .ok (.putfield 295, 3) := dk_181 1 39 (dk_at dksX0_finer_9 9 rfl rfl)
theorem dX0_finer_222 : decode cX0_finer 222 = .ok (.iinc 6 1, 3) := dk_132 6 1 (dk_at dksX0_finer_9 12 rfl rfl)
theorem dX0_finer_225 : decode cX0_finer 225 = .ok (.goto (-26), 3) := dk_167 255 230 (dk_at dksX0_finer_9 15 rfl rfl)
theorem dX0_finer_228 : decode cX0_finer 228 = .ok (.iconst 0, 1) := dk_3 (dk_at dksX0_finer_9 18 rfl rfl)
theorem dX0_finer_229 : decode cX0_finer 229 = .ok (.istore 6, 2) := dk_54 6 (dk_at dksX0_finer_9 19 rfl rfl)
theorem dX0_finer_231 : decode cX0_finer 231 = .ok (.iload 6, 2) := dk_21 6 (dk_at dksX0_finer_9 21 rfl rfl)
theorem dX0_finer_233 : decode cX0_finer 233 = .ok (.iload_n 2, 1) := dk_28 (dk_at dksX0_finer_9 23 rfl rfl)
theorem dX0_finer_234 : decode cX0_finer 234 = .ok (.if_icmp .gt 24, 3) := dk_163 0 24 (dk_at dksX0_finer_10 0 rfl rfl)
theorem dX0_finer_237 : decode cX0_finer 237 = .ok (.aload_n 0, 1) := dk_42 (dk_at dksX0_finer_10 3 rfl rfl)
theorem dX0_finer_238 : decode cX0_finer 238 = .ok (.getfield 56, 3) := dk_180 0 56 (dk_at dksX0_finer_10 4 rfl rfl)
theorem dX0_finer_241 : decode cX0_finer 241 = .ok (.iload 6, 2) := dk_21 6 (dk_at dksX0_finer_10 7 rfl rfl)
theorem dX0_finer_243 : decode cX0_finer 243 = .ok (.aload_n 0, 1) := dk_42 (dk_at dksX0_finer_10 9 rfl rfl)
theorem dX0_finer_244 : decode cX0_finer 244 = .ok (.iload 6, 2) := dk_21 6 (dk_at dksX0_finer_10 10 rfl rfl)
theorem dX0_finer_246 : decode cX0_finer 246 = .ok (.iload_n 2, 1) := dk_28 (dk_at dksX0_finer_10 12 rfl rfl)
theorem dX0_finer_247 : decode cX0_finer 247 = .ok (.iload_n 3, 1) := dk_29 (dk_at dksX0_finer_10 13 rfl rfl)
theorem dX0_finer_248 : decode cX0_finer 248 = .ok (.invokevirtual 303, 3) := dk_182 1 47 (dk_at dksX0_finer_10 14 rfl rfl)
theorem dX0_finer_251 : decode cX0_finer 251 = .ok (.lastore, 1) := dk_80 (dk_at dksX0_finer_10 17 rfl rfl)
theorem dX0_finer_252 : decode cX0_finer 252 = .ok (.iinc 6 1, 3) := dk_132 6 1 (dk_at dksX0_finer_10 18 rfl rfl)
theorem dX0_finer_255 : decode cX0_finer 255 = .ok (.goto (-24), 3) := dk_167 255 232 (dk_at dksX0_finer_10 21 rfl rfl)
theorem dX0_finer_258 : decode cX0_finer 258 = .ok (.aload_n 0, 1) := dk_42 (dk_at dksX0_finer_11 0 rfl rfl)
theorem dX0_finer_259 : decode cX0_finer 259 = .ok (.iload_n 2, 1) := dk_28 (dk_at dksX0_finer_11 1 rfl rfl)
theorem dX0_finer_260 : decode cX0_finer 260 = .ok (.iconst 1, 1) := dk_4 (dk_at dksX0_finer_11 2 rfl rfl)
theorem dX0_finer_261 : decode cX0_finer 261 = .ok (.iadd, 1) := dk_96 (dk_at dksX0_finer_11 3 rfl rfl)
theorem dX0_finer_262 : decode cX0_finer 262 = .ok (.invokevirtual 245, 3) := dk_182 0 245 (dk_at dksX0_finer_11 4 rfl rfl)
theorem dX0_finer_265 : decode cX0_finer 265 = .ok (.iconst 0, 1) := dk_3 (dk_at dksX0_finer_11 7 rfl rfl)
theorem dX0_finer_266 : decode cX0_finer 266 = .ok (.istore 6, 2) := dk_54 6 (dk_at dksX0_finer_11 8 rfl rfl)
theorem dX0_finer_268 : decode cX0_finer 268 = .ok (.iload 6, 2) := dk_21 6 (dk_at dksX0_finer_11 10 rfl rfl)
theorem dX0_finer_270 : decode cX0_finer 270 = .ok (.iload_n 2, 1) := dk_28 (dk_at dksX0_finer_11 12 rfl rfl)
theorem dX0_finer_271 : decode cX0_finer 271 = .ok (.if_icmp .gt 42, 3) := dk_163 0 42 (dk_at dksX0_finer_11 13 rfl rfl)
theorem dX0_finer_274 : decode cX0_finer 274 = .ok (.iload 6, 2) := dk_21 6 (dk_at dksX0_finer_11 16 rfl rfl)
theorem dX0_finer_276 : decode cX0_finer 276 = .ok (.ifCond .le 17, 3) := dk_158 0 17 (dk_at dksX0_finer_11 18 rfl rfl)
theorem dX0_finer_279 : decode cX0_finer 279 = .ok (.iload 6, 2) := dk_21 6 (dk_at dksX0_finer_11 21 rfl rfl)
theorem dX0_finer_281 : decode cX0_finer 281 = .ok (.iconst 2, 1) := dk_5 (dk_at dksX0_finer_11 23 rfl rfl)
theorem dX0_finer_282 : decode cX0_finer 282 = .ok (.irem, 1) := dk_112 (dk_at dksX0_finer_12 0 rfl rfl)
theorem dX0_finer_283 : decode cX0_finer 283 = .ok (.ifCond .ne 10, 3) := dk_154 0 10 (dk_at dksX0_finer_12 1 rfl rfl)
theorem dX0_finer_286 : decode cX0_finer 286 = .ok (.aload_n 0, 1) := dk_42 (dk_at dksX0_finer_12 4 rfl rfl)
theorem dX0_finer_287 : decode cX0_finer 287 = .ok (.iload_n 2, 1) := dk_28 (dk_at dksX0_finer_12 5 rfl rfl)
theorem dX0_finer_288 : decode cX0_finer 288 = .ok (.iconst 1, 1) := dk_4 (dk_at dksX0_finer_12 6 rfl rfl)
theorem dX0_finer_289 : decode cX0_finer 289 = .ok (.iadd, 1) := dk_96 (dk_at dksX0_finer_12 7 rfl rfl)
theorem dX0_finer_290 : decode cX0_finer 290 = .ok (.invokevirtual 249, 3) := dk_182 0 249 (dk_at dksX0_finer_12 8 rfl rfl)
theorem dX0_finer_293 : decode cX0_finer 293 = .ok (.aload_n 0, 1) := dk_42 (dk_at dksX0_finer_12 11 rfl rfl)
theorem dX0_finer_294 : decode cX0_finer 294 = .ok (.getfield 67, 3) := dk_180 0 67 (dk_at dksX0_finer_12 12 rfl rfl)
theorem dX0_finer_297 : decode cX0_finer 297 = .ok (.iload 6, 2) := dk_21 6 (dk_at dksX0_finer_12 15 rfl rfl)
theorem dX0_finer_299 : decode cX0_finer 299 = .ok (.aload_n 0, 1) := dk_42 (dk_at dksX0_finer_12 17 rfl rfl)
theorem dX0_finer_300 : decode cX0_finer 300 = .ok (.getfield 56, 3) := dk_180 0 56 (dk_at dksX0_finer_12 18 rfl rfl)
theorem dX0_finer_303 : decode cX0_finer 303 = .ok (.iload 6, 2) := dk_21 6 (dk_at dksX0_finer_12 21 rfl rfl)
theorem dX0_finer_305 : decode cX0_finer 305 = .ok (.laload, 1) := dk_47 (dk_at dksX0_finer_12 23 rfl rfl)
theorem dX0_finer_306 : decode cX0_finer 306 = .ok (.lastore, 1) := dk_80 (dk_at dksX0_finer_13 0 rfl rfl)
theorem dX0_finer_307 : decode cX0_finer 307 = .ok (.iinc 6 1, 3) := dk_132 6 1 (dk_at dksX0_finer_13 1 rfl rfl)
theorem dX0_finer_310 : decode cX0_finer 310 = .ok (.goto (-42), 3) := dk_167 255 214 (dk_at dksX0_finer_13 4 rfl rfl)
theorem dX0_finer_313 : decode cX0_finer 313 = .ok (.lconst 1, 1) := dk_10 (dk_at dksX0_finer_13 7 rfl rfl)
theorem dX0_finer_314 : decode cX0_finer 314 = .ok (.lstore 6, 2) := dk_55 6 (dk_at dksX0_finer_13 8 rfl rfl)
theorem dX0_finer_316 : decode cX0_finer 316 = .ok (.iconst 0, 1) := dk_3 (dk_at dksX0_finer_13 10 rfl rfl)
theorem dX0_finer_317 : decode cX0_finer 317 = .ok (.istore 8, 2) := dk_54 8 (dk_at dksX0_finer_13 11 rfl rfl)
theorem dX0_finer_319 : decode cX0_finer 319 = .ok (.iload 8, 2) := dk_21 8 (dk_at dksX0_finer_13 13 rfl rfl)
theorem dX0_finer_321 : decode cX0_finer 321 = .ok (.bipush 6, 2) := dk_16 6 (dk_at dksX0_finer_13 15 rfl rfl)
theorem dX0_finer_323 : decode cX0_finer 323 = .ok (.if_icmp .gt 37, 3) := dk_163 0 37 (dk_at dksX0_finer_13 17 rfl rfl)
theorem dX0_finer_326 : decode cX0_finer 326 = .ok (.aload_n 0, 1) := dk_42 (dk_at dksX0_finer_13 20 rfl rfl)
theorem dX0_finer_327 : decode cX0_finer 327 = .ok (.iload_n 2, 1) := dk_28 (dk_at dksX0_finer_13 21 rfl rfl)
theorem dX0_finer_328 : decode cX0_finer 328 = .ok (.iload_n 3, 1) := dk_29 (dk_at dksX0_finer_13 22 rfl rfl)
theorem dX0_finer_329 : decode cX0_finer 329 = .ok (.iload 4, 2) := dk_21 4 (dk_at dksX0_finer_14 0 rfl rfl)
theorem dX0_finer_331 : decode cX0_finer 331 = .ok (.lload 6, 2) := dk_22 6 (dk_at dksX0_finer_14 2 rfl rfl)
theorem dX0_finer_333 : decode cX0_finer 333 = .ok (.invokevirtual 311, 3) := dk_182 1 55 (dk_at dksX0_finer_14 4 rfl rfl)
theorem dX0_finer_336 : decode cX0_finer 336 = .ok (.ifCond .eq 10, 3) := dk_153 0 10 (dk_at dksX0_finer_14 7 rfl rfl)
theorem dX0_finer_339 : decode cX0_finer 339 = .ok (.aload_n 0, 1) := dk_42 (dk_at dksX0_finer_14 10 rfl rfl)
theorem dX0_finer_340 : decode cX0_finer 340 = .ok (.iload 8, 2) := dk_21 8 (dk_at dksX0_finer_14 11 rfl rfl)
theorem dX0_finer_342 : decode cX0_finer 342 = .ok (.invokevirtual 215, 3) := dk_182 0 215 (dk_at dksX0_finer_14 13 rfl rfl)
theorem dX0_finer_345 : decode cX0_finer 345 = .ok (.ireturn, 1) := dk_172 (dk_at dksX0_finer_14 16 rfl rfl)
theorem dX0_finer_346 : decode cX0_finer 346 = .ok (.lload 6, 2) := dk_22 6 (dk_at dksX0_finer_14 17 rfl rfl)
theorem dX0_finer_348 : decode cX0_finer 348 = .ok (.ldc2_w 315, 3) := dk_20 1 59 (dk_at dksX0_finer_14 19 rfl rfl)
theorem dX0_finer_351 : decode cX0_finer 351 = .ok (.lmul, 1) := dk_105 (dk_at dksX0_finer_14 22 rfl rfl)
theorem dX0_finer_352 : decode cX0_finer 352 = .ok (.lstore 6, 2) := dk_55 6 (dk_at dksX0_finer_15 0 rfl rfl)
theorem dX0_finer_354 : decode cX0_finer 354 = .ok (.iinc 8 1, 3) := dk_132 8 1 (dk_at dksX0_finer_15 2 rfl rfl)
theorem dX0_finer_357 : decode cX0_finer 357 = .ok (.goto (-38), 3) := dk_167 255 218 (dk_at dksX0_finer_15 5 rfl rfl)
theorem dX0_finer_360 : decode cX0_finer 360 = .ok (.aload_n 0, 1) := dk_42 (dk_at dksX0_finer_15 8 rfl rfl)
theorem dX0_finer_361 : decode cX0_finer 361 = .ok (.bipush 8, 2) := dk_16 8 (dk_at dksX0_finer_15 9 rfl rfl)
theorem dX0_finer_363 : decode cX0_finer 363 = .ok (.invokevirtual 169, 3) := dk_182 0 169 (dk_at dksX0_finer_15 11 rfl rfl)
theorem dX0_finer_366 : decode cX0_finer 366 = .ok (.ireturn, 1) := dk_172 (dk_at dksX0_finer_15 14 rfl rfl)
abbrev cX0_at : ByteArray := prog_1_method_28_code
def yX0_at : MethodName := ⟨RX0, "at", "(III)J"⟩
def dkwX0_at_3 : List UInt8 := [133, 29, 133, 105, 101, 105, 55, 6, 132, 8, 1, 167, 255, 183, 22, 4, 173]
abbrev dktX0_at_3 : List UInt8 := dkwX0_at_3 ++ []
def dkwX0_at_2 : List UInt8 := [22, 4, 42, 180, 0, 64, 21, 8, 47, 22, 6, 105, 22, 9, 105, 97, 55, 4, 22, 6, 27, 133, 21, 8]
abbrev dktX0_at_2 : List UInt8 := dkwX0_at_2 ++ dktX0_at_3
def dkwX0_at_1 : List UInt8 := [28, 162, 0, 22, 22, 9, 29, 133, 21, 11, 133, 10, 97, 105, 105, 55, 9, 132, 11, 1, 167, 255, 234]
abbrev dktX0_at_1 : List UInt8 := dkwX0_at_1 ++ dktX0_at_2
def dkwX0_at_0 : List UInt8 := [9, 55, 4, 10, 55, 6, 3, 54, 8, 21, 8, 28, 163, 0, 73, 10, 55, 9, 21, 8, 54, 11, 21, 11]
abbrev dktX0_at_0 : List UInt8 := dkwX0_at_0 ++ dktX0_at_1
theorem dksX0_at_0 : cX0_at.data.toList.drop 0 = dktX0_at_0 := by decide +kernel
theorem dksX0_at_1 : cX0_at.data.toList.drop 24 = dktX0_at_1 := dk_seg dksX0_at_0 24 rfl rfl
theorem dksX0_at_2 : cX0_at.data.toList.drop 47 = dktX0_at_2 := dk_seg dksX0_at_1 23 rfl rfl
theorem dksX0_at_3 : cX0_at.data.toList.drop 71 = dktX0_at_3 := dk_seg dksX0_at_2 24 rfl rfl
theorem dX0_at_0 : decode cX0_at 0 = .ok (.lconst 0, 1) := dk_9 (dk_at dksX0_at_0 0 rfl rfl)
theorem dX0_at_1 : decode cX0_at 1 = .ok (.lstore 4, 2) := dk_55 4 (dk_at dksX0_at_0 1 rfl rfl)
theorem dX0_at_3 : decode cX0_at 3 = .ok (.lconst 1, 1) := dk_10 (dk_at dksX0_at_0 3 rfl rfl)
theorem dX0_at_4 : decode cX0_at 4 = .ok (.lstore 6, 2) := dk_55 6 (dk_at dksX0_at_0 4 rfl rfl)
theorem dX0_at_6 : decode cX0_at 6 = .ok (.iconst 0, 1) := dk_3 (dk_at dksX0_at_0 6 rfl rfl)
theorem dX0_at_7 : decode cX0_at 7 = .ok (.istore 8, 2) := dk_54 8 (dk_at dksX0_at_0 7 rfl rfl)
theorem dX0_at_9 : decode cX0_at 9 = .ok (.iload 8, 2) := dk_21 8 (dk_at dksX0_at_0 9 rfl rfl)
theorem dX0_at_11 : decode cX0_at 11 = .ok (.iload_n 2, 1) := dk_28 (dk_at dksX0_at_0 11 rfl rfl)
theorem dX0_at_12 : decode cX0_at 12 = .ok (.if_icmp .gt 73, 3) := dk_163 0 73 (dk_at dksX0_at_0 12 rfl rfl)
theorem dX0_at_15 : decode cX0_at 15 = .ok (.lconst 1, 1) := dk_10 (dk_at dksX0_at_0 15 rfl rfl)
theorem dX0_at_16 : decode cX0_at 16 = .ok (.lstore 9, 2) := dk_55 9 (dk_at dksX0_at_0 16 rfl rfl)
theorem dX0_at_18 : decode cX0_at 18 = .ok (.iload 8, 2) := dk_21 8 (dk_at dksX0_at_0 18 rfl rfl)
theorem dX0_at_20 : decode cX0_at 20 = .ok (.istore 11, 2) := dk_54 11 (dk_at dksX0_at_0 20 rfl rfl)
theorem dX0_at_22 : decode cX0_at 22 = .ok (.iload 11, 2) := dk_21 11 (dk_at dksX0_at_0 22 rfl rfl)
theorem dX0_at_24 : decode cX0_at 24 = .ok (.iload_n 2, 1) := dk_28 (dk_at dksX0_at_1 0 rfl rfl)
theorem dX0_at_25 : decode cX0_at 25 = .ok (.if_icmp .ge 22, 3) := dk_162 0 22 (dk_at dksX0_at_1 1 rfl rfl)
theorem dX0_at_28 : decode cX0_at 28 = .ok (.lload 9, 2) := dk_22 9 (dk_at dksX0_at_1 4 rfl rfl)
theorem dX0_at_30 : decode cX0_at 30 = .ok (.iload_n 3, 1) := dk_29 (dk_at dksX0_at_1 6 rfl rfl)
theorem dX0_at_31 : decode cX0_at 31 = .ok (.i2l, 1) := dk_133 (dk_at dksX0_at_1 7 rfl rfl)
theorem dX0_at_32 : decode cX0_at 32 = .ok (.iload 11, 2) := dk_21 11 (dk_at dksX0_at_1 8 rfl rfl)
theorem dX0_at_34 : decode cX0_at 34 = .ok (.i2l, 1) := dk_133 (dk_at dksX0_at_1 10 rfl rfl)
theorem dX0_at_35 : decode cX0_at 35 = .ok (.lconst 1, 1) := dk_10 (dk_at dksX0_at_1 11 rfl rfl)
theorem dX0_at_36 : decode cX0_at 36 = .ok (.ladd, 1) := dk_97 (dk_at dksX0_at_1 12 rfl rfl)
theorem dX0_at_37 : decode cX0_at 37 = .ok (.lmul, 1) := dk_105 (dk_at dksX0_at_1 13 rfl rfl)
theorem dX0_at_38 : decode cX0_at 38 = .ok (.lmul, 1) := dk_105 (dk_at dksX0_at_1 14 rfl rfl)
theorem dX0_at_39 : decode cX0_at 39 = .ok (.lstore 9, 2) := dk_55 9 (dk_at dksX0_at_1 15 rfl rfl)
theorem dX0_at_41 : decode cX0_at 41 = .ok (.iinc 11 1, 3) := dk_132 11 1 (dk_at dksX0_at_1 17 rfl rfl)
theorem dX0_at_44 : decode cX0_at 44 = .ok (.goto (-22), 3) := dk_167 255 234 (dk_at dksX0_at_1 20 rfl rfl)
theorem dX0_at_47 : decode cX0_at 47 = .ok (.lload 4, 2) := dk_22 4 (dk_at dksX0_at_2 0 rfl rfl)
theorem dX0_at_49 : decode cX0_at 49 = .ok (.aload_n 0, 1) := dk_42 (dk_at dksX0_at_2 2 rfl rfl)
theorem dX0_at_50 : decode cX0_at 50 = .ok (.getfield 64, 3) := dk_180 0 64 (dk_at dksX0_at_2 3 rfl rfl)
theorem dX0_at_53 : decode cX0_at 53 = .ok (.iload 8, 2) := dk_21 8 (dk_at dksX0_at_2 6 rfl rfl)
theorem dX0_at_55 : decode cX0_at 55 = .ok (.laload, 1) := dk_47 (dk_at dksX0_at_2 8 rfl rfl)
theorem dX0_at_56 : decode cX0_at 56 = .ok (.lload 6, 2) := dk_22 6 (dk_at dksX0_at_2 9 rfl rfl)
theorem dX0_at_58 : decode cX0_at 58 = .ok (.lmul, 1) := dk_105 (dk_at dksX0_at_2 11 rfl rfl)
theorem dX0_at_59 : decode cX0_at 59 = .ok (.lload 9, 2) := dk_22 9 (dk_at dksX0_at_2 12 rfl rfl)
theorem dX0_at_61 : decode cX0_at 61 = .ok (.lmul, 1) := dk_105 (dk_at dksX0_at_2 14 rfl rfl)
theorem dX0_at_62 : decode cX0_at 62 = .ok (.ladd, 1) := dk_97 (dk_at dksX0_at_2 15 rfl rfl)
theorem dX0_at_63 : decode cX0_at 63 = .ok (.lstore 4, 2) := dk_55 4 (dk_at dksX0_at_2 16 rfl rfl)
theorem dX0_at_65 : decode cX0_at 65 = .ok (.lload 6, 2) := dk_22 6 (dk_at dksX0_at_2 18 rfl rfl)
theorem dX0_at_67 : decode cX0_at 67 = .ok (.iload_n 1, 1) := dk_27 (dk_at dksX0_at_2 20 rfl rfl)
theorem dX0_at_68 : decode cX0_at 68 = .ok (.i2l, 1) := dk_133 (dk_at dksX0_at_2 21 rfl rfl)
theorem dX0_at_69 : decode cX0_at 69 = .ok (.iload 8, 2) := dk_21 8 (dk_at dksX0_at_2 22 rfl rfl)
theorem dX0_at_71 : decode cX0_at 71 = .ok (.i2l, 1) := dk_133 (dk_at dksX0_at_3 0 rfl rfl)
theorem dX0_at_72 : decode cX0_at 72 = .ok (.iload_n 3, 1) := dk_29 (dk_at dksX0_at_3 1 rfl rfl)
theorem dX0_at_73 : decode cX0_at 73 = .ok (.i2l, 1) := dk_133 (dk_at dksX0_at_3 2 rfl rfl)
theorem dX0_at_74 : decode cX0_at 74 = .ok (.lmul, 1) := dk_105 (dk_at dksX0_at_3 3 rfl rfl)
theorem dX0_at_75 : decode cX0_at 75 = .ok (.lsub, 1) := dk_101 (dk_at dksX0_at_3 4 rfl rfl)
theorem dX0_at_76 : decode cX0_at 76 = .ok (.lmul, 1) := dk_105 (dk_at dksX0_at_3 5 rfl rfl)
theorem dX0_at_77 : decode cX0_at 77 = .ok (.lstore 6, 2) := dk_55 6 (dk_at dksX0_at_3 6 rfl rfl)
theorem dX0_at_79 : decode cX0_at 79 = .ok (.iinc 8 1, 3) := dk_132 8 1 (dk_at dksX0_at_3 8 rfl rfl)
theorem dX0_at_82 : decode cX0_at 82 = .ok (.goto (-73), 3) := dk_167 255 183 (dk_at dksX0_at_3 11 rfl rfl)
theorem dX0_at_85 : decode cX0_at 85 = .ok (.lload 4, 2) := dk_22 4 (dk_at dksX0_at_3 14 rfl rfl)
theorem dX0_at_87 : decode cX0_at 87 = .ok (.lreturn, 1) := dk_173 (dk_at dksX0_at_3 16 rfl rfl)
abbrev cX0_isRight : ByteArray := prog_1_method_30_code
def yX0_isRight : MethodName := ⟨RX0, "isRight", "(IIIJ)Z"⟩
def dkwX0_isRight_6 : List UInt8 := [180, 0, 70, 6, 92, 47, 42, 180, 0, 70, 7, 47, 97, 80, 132, 6, 1, 167, 255, 153, 4, 172]
abbrev dktX0_isRight_6 : List UInt8 := dkwX0_isRight_6 ++ []
def dkwX0_isRight_5 : List UInt8 := [180, 0, 70, 6, 47, 97, 80, 42, 180, 0, 70, 4, 92, 47, 42, 180, 0, 70, 5, 47, 97, 80, 42]
abbrev dktX0_isRight_5 : List UInt8 := dkwX0_isRight_5 ++ dktX0_isRight_6
def dkwX0_isRight_4 : List UInt8 := [180, 0, 70, 3, 92, 47, 42, 180, 0, 70, 4, 47, 97, 80, 42, 180, 0, 70, 5, 92, 47, 42]
abbrev dktX0_isRight_4 : List UInt8 := dkwX0_isRight_4 ++ dktX0_isRight_5
def dkwX0_isRight_3 : List UInt8 := [42, 21, 6, 27, 28, 182, 1, 47, 42, 180, 1, 39, 10, 184, 1, 43, 148, 153, 0, 5, 3, 172, 42]
abbrev dktX0_isRight_3 : List UInt8 := dkwX0_isRight_3 ++ dktX0_isRight_4
def dkwX0_isRight_2 : List UInt8 := [167, 255, 214, 3, 54, 6, 21, 6, 29, 162, 0, 103, 42, 180, 0, 70, 3, 47, 22, 4, 10, 184, 1, 43]
abbrev dktX0_isRight_2 : List UInt8 := dkwX0_isRight_2 ++ dktX0_isRight_3
def dkwX0_isRight_1 : List UInt8 := [167, 0, 19, 42, 180, 0, 67, 21, 6, 47, 42, 180, 1, 39, 22, 4, 184, 1, 43, 80, 132, 6, 1]
abbrev dktX0_isRight_1 : List UInt8 := dkwX0_isRight_1 ++ dktX0_isRight_2
def dkwX0_isRight_0 : List UInt8 := [3, 54, 6, 21, 6, 8, 162, 0, 42, 42, 180, 0, 70, 21, 6, 21, 6, 27, 164, 0, 7, 9]
abbrev dktX0_isRight_0 : List UInt8 := dkwX0_isRight_0 ++ dktX0_isRight_1
theorem dksX0_isRight_0 : cX0_isRight.data.toList.drop 0 = dktX0_isRight_0 := by decide +kernel
theorem dksX0_isRight_1 : cX0_isRight.data.toList.drop 22 = dktX0_isRight_1 := dk_seg dksX0_isRight_0 22 rfl rfl
theorem dksX0_isRight_2 : cX0_isRight.data.toList.drop 45 = dktX0_isRight_2 := dk_seg dksX0_isRight_1 23 rfl rfl
theorem dksX0_isRight_3 : cX0_isRight.data.toList.drop 69 = dktX0_isRight_3 := dk_seg dksX0_isRight_2 24 rfl rfl
theorem dksX0_isRight_4 : cX0_isRight.data.toList.drop 92 = dktX0_isRight_4 := dk_seg dksX0_isRight_3 23 rfl rfl
theorem dksX0_isRight_5 : cX0_isRight.data.toList.drop 114 = dktX0_isRight_5 := dk_seg dksX0_isRight_4 22 rfl rfl
theorem dksX0_isRight_6 : cX0_isRight.data.toList.drop 137 = dktX0_isRight_6 := dk_seg dksX0_isRight_5 23 rfl rfl
theorem dX0_isRight_0 : decode cX0_isRight 0 = .ok (.iconst 0, 1) := dk_3 (dk_at dksX0_isRight_0 0 rfl rfl)
theorem dX0_isRight_1 : decode cX0_isRight 1 = .ok (.istore 6, 2) := dk_54 6 (dk_at dksX0_isRight_0 1 rfl rfl)
theorem dX0_isRight_3 : decode cX0_isRight 3 = .ok (.iload 6, 2) := dk_21 6 (dk_at dksX0_isRight_0 3 rfl rfl)
theorem dX0_isRight_5 : decode cX0_isRight 5 = .ok (.iconst 5, 1) := dk_8 (dk_at dksX0_isRight_0 5 rfl rfl)
theorem dX0_isRight_6 : decode cX0_isRight 6 = .ok (.if_icmp .ge 42, 3) := dk_162 0 42 (dk_at dksX0_isRight_0 6 rfl rfl)
theorem dX0_isRight_9 : decode cX0_isRight 9 = .ok (.aload_n 0, 1) := dk_42 (dk_at dksX0_isRight_0 9 rfl rfl)
theorem dX0_isRight_10 : decode cX0_isRight 10 = .ok (.getfield 70, 3) := dk_180 0 70 (dk_at dksX0_isRight_0 10 rfl rfl)
theorem dX0_isRight_13 : decode cX0_isRight 13 = .ok (.iload 6, 2) := dk_21 6 (dk_at dksX0_isRight_0 13 rfl rfl)
theorem dX0_isRight_15 : decode cX0_isRight 15 = .ok (.iload 6, 2) := dk_21 6 (dk_at dksX0_isRight_0 15 rfl rfl)
theorem dX0_isRight_17 : decode cX0_isRight 17 = .ok (.iload_n 1, 1) := dk_27 (dk_at dksX0_isRight_0 17 rfl rfl)
theorem dX0_isRight_18 : decode cX0_isRight 18 = .ok (.if_icmp .le 7, 3) := dk_164 0 7 (dk_at dksX0_isRight_0 18 rfl rfl)
theorem dX0_isRight_21 : decode cX0_isRight 21 = .ok (.lconst 0, 1) := dk_9 (dk_at dksX0_isRight_0 21 rfl rfl)
theorem dX0_isRight_22 : decode cX0_isRight 22 = .ok (.goto 19, 3) := dk_167 0 19 (dk_at dksX0_isRight_1 0 rfl rfl)
theorem dX0_isRight_25 : decode cX0_isRight 25 = .ok (.aload_n 0, 1) := dk_42 (dk_at dksX0_isRight_1 3 rfl rfl)
theorem dX0_isRight_26 : decode cX0_isRight 26 = .ok (.getfield 67, 3) := dk_180 0 67 (dk_at dksX0_isRight_1 4 rfl rfl)
theorem dX0_isRight_29 : decode cX0_isRight 29 = .ok (.iload 6, 2) := dk_21 6 (dk_at dksX0_isRight_1 7 rfl rfl)
theorem dX0_isRight_31 : decode cX0_isRight 31 = .ok (.laload, 1) := dk_47 (dk_at dksX0_isRight_1 9 rfl rfl)
theorem dX0_isRight_32 : decode cX0_isRight 32 = .ok (.aload_n 0, 1) := dk_42 (dk_at dksX0_isRight_1 10 rfl rfl)
theorem dX0_isRight_33 : decode cX0_isRight 33 = .ok (.getfield 295, 3) := dk_180 1 39 (dk_at dksX0_isRight_1 11 rfl rfl)
theorem dX0_isRight_36 : decode cX0_isRight 36 = .ok (.lload 4, 2) := dk_22 4 (dk_at dksX0_isRight_1 14 rfl rfl)
theorem dX0_isRight_38 : decode cX0_isRight 38 = .ok (.invokestatic 299, 3) := dk_184 1 43 (dk_at dksX0_isRight_1 16 rfl rfl)
theorem dX0_isRight_41 : decode cX0_isRight 41 = .ok (.lastore, 1) := dk_80 (dk_at dksX0_isRight_1 19 rfl rfl)
theorem dX0_isRight_42 : decode cX0_isRight 42 = .ok (.iinc 6 1, 3) := dk_132 6 1 (dk_at dksX0_isRight_1 20 rfl rfl)
theorem dX0_isRight_45 : decode cX0_isRight 45 = .ok (.goto (-42), 3) := dk_167 255 214 (dk_at dksX0_isRight_2 0 rfl rfl)
theorem dX0_isRight_48 : decode cX0_isRight 48 = .ok (.iconst 0, 1) := dk_3 (dk_at dksX0_isRight_2 3 rfl rfl)
theorem dX0_isRight_49 : decode cX0_isRight 49 = .ok (.istore 6, 2) := dk_54 6 (dk_at dksX0_isRight_2 4 rfl rfl)
theorem dX0_isRight_51 : decode cX0_isRight 51 = .ok (.iload 6, 2) := dk_21 6 (dk_at dksX0_isRight_2 6 rfl rfl)
theorem dX0_isRight_53 : decode cX0_isRight 53 = .ok (.iload_n 3, 1) := dk_29 (dk_at dksX0_isRight_2 8 rfl rfl)
theorem dX0_isRight_54 : decode cX0_isRight 54 = .ok (.if_icmp .ge 103, 3) := dk_162 0 103 (dk_at dksX0_isRight_2 9 rfl rfl)
theorem dX0_isRight_57 : decode cX0_isRight 57 = .ok (.aload_n 0, 1) := dk_42 (dk_at dksX0_isRight_2 12 rfl rfl)
theorem dX0_isRight_58 : decode cX0_isRight 58 = .ok (.getfield 70, 3) := dk_180 0 70 (dk_at dksX0_isRight_2 13 rfl rfl)
theorem dX0_isRight_61 : decode cX0_isRight 61 = .ok (.iconst 0, 1) := dk_3 (dk_at dksX0_isRight_2 16 rfl rfl)
theorem dX0_isRight_62 : decode cX0_isRight 62 = .ok (.laload, 1) := dk_47 (dk_at dksX0_isRight_2 17 rfl rfl)
theorem dX0_isRight_63 : decode cX0_isRight 63 = .ok (.lload 4, 2) := dk_22 4 (dk_at dksX0_isRight_2 18 rfl rfl)
theorem dX0_isRight_65 : decode cX0_isRight 65 = .ok (.lconst 1, 1) := dk_10 (dk_at dksX0_isRight_2 20 rfl rfl)
theorem dX0_isRight_66 : decode cX0_isRight 66 = .ok (.invokestatic 299, 3) := dk_184 1 43 (dk_at dksX0_isRight_2 21 rfl rfl)
theorem dX0_isRight_69 : decode cX0_isRight 69 = .ok (.aload_n 0, 1) := dk_42 (dk_at dksX0_isRight_3 0 rfl rfl)
theorem dX0_isRight_70 : decode cX0_isRight 70 = .ok (.iload 6, 2) := dk_21 6 (dk_at dksX0_isRight_3 1 rfl rfl)
theorem dX0_isRight_72 : decode cX0_isRight 72 = .ok (.iload_n 1, 1) := dk_27 (dk_at dksX0_isRight_3 3 rfl rfl)
theorem dX0_isRight_73 : decode cX0_isRight 73 = .ok (.iload_n 2, 1) := dk_28 (dk_at dksX0_isRight_3 4 rfl rfl)
theorem dX0_isRight_74 : decode cX0_isRight 74 = .ok (.invokevirtual 303, 3) := dk_182 1 47 (dk_at dksX0_isRight_3 5 rfl rfl)
theorem dX0_isRight_77 : decode cX0_isRight 77 = .ok (.aload_n 0, 1) := dk_42 (dk_at dksX0_isRight_3 8 rfl rfl)
theorem dX0_isRight_78 : decode cX0_isRight 78 = .ok (.getfield 295, 3) := dk_180 1 39 (dk_at dksX0_isRight_3 9 rfl rfl)
theorem dX0_isRight_81 : decode cX0_isRight 81 = .ok (.lconst 1, 1) := dk_10 (dk_at dksX0_isRight_3 12 rfl rfl)
theorem dX0_isRight_82 : decode cX0_isRight 82 = .ok (.invokestatic 299, 3) := dk_184 1 43 (dk_at dksX0_isRight_3 13 rfl rfl)
theorem dX0_isRight_85 : decode cX0_isRight 85 = .ok (.lcmp, 1) := dk_148 (dk_at dksX0_isRight_3 16 rfl rfl)
theorem dX0_isRight_86 : decode cX0_isRight 86 = .ok (.ifCond .eq 5, 3) := dk_153 0 5 (dk_at dksX0_isRight_3 17 rfl rfl)
theorem dX0_isRight_89 : decode cX0_isRight 89 = .ok (.iconst 0, 1) := dk_3 (dk_at dksX0_isRight_3 20 rfl rfl)
theorem dX0_isRight_90 : decode cX0_isRight 90 = .ok (.ireturn, 1) := dk_172 (dk_at dksX0_isRight_3 21 rfl rfl)
theorem dX0_isRight_91 : decode cX0_isRight 91 = .ok (.aload_n 0, 1) := dk_42 (dk_at dksX0_isRight_3 22 rfl rfl)
theorem dX0_isRight_92 : decode cX0_isRight 92 = .ok (.getfield 70, 3) := dk_180 0 70 (dk_at dksX0_isRight_4 0 rfl rfl)
theorem dX0_isRight_95 : decode cX0_isRight 95 = .ok (.iconst 0, 1) := dk_3 (dk_at dksX0_isRight_4 3 rfl rfl)
theorem dX0_isRight_96 : decode cX0_isRight 96 = .ok (.dup2, 1) := dk_92 (dk_at dksX0_isRight_4 4 rfl rfl)
theorem dX0_isRight_97 : decode cX0_isRight 97 = .ok (.laload, 1) := dk_47 (dk_at dksX0_isRight_4 5 rfl rfl)
theorem dX0_isRight_98 : decode cX0_isRight 98 = .ok (.aload_n 0, 1) := dk_42 (dk_at dksX0_isRight_4 6 rfl rfl)
theorem dX0_isRight_99 : decode cX0_isRight 99 = .ok (.getfield 70, 3) := dk_180 0 70 (dk_at dksX0_isRight_4 7 rfl rfl)
theorem dX0_isRight_102 : decode cX0_isRight 102 = .ok (.iconst 1, 1) := dk_4 (dk_at dksX0_isRight_4 10 rfl rfl)
theorem dX0_isRight_103 : decode cX0_isRight 103 = .ok (.laload, 1) := dk_47 (dk_at dksX0_isRight_4 11 rfl rfl)
theorem dX0_isRight_104 : decode cX0_isRight 104 = .ok (.ladd, 1) := dk_97 (dk_at dksX0_isRight_4 12 rfl rfl)
theorem dX0_isRight_105 : decode cX0_isRight 105 = .ok (.lastore, 1) := dk_80 (dk_at dksX0_isRight_4 13 rfl rfl)
theorem dX0_isRight_106 : decode cX0_isRight 106 = .ok (.aload_n 0, 1) := dk_42 (dk_at dksX0_isRight_4 14 rfl rfl)
theorem dX0_isRight_107 : decode cX0_isRight 107 = .ok (.getfield 70, 3) := dk_180 0 70 (dk_at dksX0_isRight_4 15 rfl rfl)
theorem dX0_isRight_110 : decode cX0_isRight 110 = .ok (.iconst 2, 1) := dk_5 (dk_at dksX0_isRight_4 18 rfl rfl)
theorem dX0_isRight_111 : decode cX0_isRight 111 = .ok (.dup2, 1) := dk_92 (dk_at dksX0_isRight_4 19 rfl rfl)
theorem dX0_isRight_112 : decode cX0_isRight 112 = .ok (.laload, 1) := dk_47 (dk_at dksX0_isRight_4 20 rfl rfl)
theorem dX0_isRight_113 : decode cX0_isRight 113 = .ok (.aload_n 0, 1) := dk_42 (dk_at dksX0_isRight_4 21 rfl rfl)
theorem dX0_isRight_114 : decode cX0_isRight 114 = .ok (.getfield 70, 3) := dk_180 0 70 (dk_at dksX0_isRight_5 0 rfl rfl)
theorem dX0_isRight_117 : decode cX0_isRight 117 = .ok (.iconst 3, 1) := dk_6 (dk_at dksX0_isRight_5 3 rfl rfl)
theorem dX0_isRight_118 : decode cX0_isRight 118 = .ok (.laload, 1) := dk_47 (dk_at dksX0_isRight_5 4 rfl rfl)
theorem dX0_isRight_119 : decode cX0_isRight 119 = .ok (.ladd, 1) := dk_97 (dk_at dksX0_isRight_5 5 rfl rfl)
theorem dX0_isRight_120 : decode cX0_isRight 120 = .ok (.lastore, 1) := dk_80 (dk_at dksX0_isRight_5 6 rfl rfl)
theorem dX0_isRight_121 : decode cX0_isRight 121 = .ok (.aload_n 0, 1) := dk_42 (dk_at dksX0_isRight_5 7 rfl rfl)
theorem dX0_isRight_122 : decode cX0_isRight 122 = .ok (.getfield 70, 3) := dk_180 0 70 (dk_at dksX0_isRight_5 8 rfl rfl)
theorem dX0_isRight_125 : decode cX0_isRight 125 = .ok (.iconst 1, 1) := dk_4 (dk_at dksX0_isRight_5 11 rfl rfl)
theorem dX0_isRight_126 : decode cX0_isRight 126 = .ok (.dup2, 1) := dk_92 (dk_at dksX0_isRight_5 12 rfl rfl)
theorem dX0_isRight_127 : decode cX0_isRight 127 = .ok (.laload, 1) := dk_47 (dk_at dksX0_isRight_5 13 rfl rfl)
theorem dX0_isRight_128 : decode cX0_isRight 128 = .ok (.aload_n 0, 1) := dk_42 (dk_at dksX0_isRight_5 14 rfl rfl)
theorem dX0_isRight_129 : decode cX0_isRight 129 = .ok (.getfield 70, 3) := dk_180 0 70 (dk_at dksX0_isRight_5 15 rfl rfl)
theorem dX0_isRight_132 : decode cX0_isRight 132 = .ok (.iconst 2, 1) := dk_5 (dk_at dksX0_isRight_5 18 rfl rfl)
theorem dX0_isRight_133 : decode cX0_isRight 133 = .ok (.laload, 1) := dk_47 (dk_at dksX0_isRight_5 19 rfl rfl)
theorem dX0_isRight_134 : decode cX0_isRight 134 = .ok (.ladd, 1) := dk_97 (dk_at dksX0_isRight_5 20 rfl rfl)
theorem dX0_isRight_135 : decode cX0_isRight 135 = .ok (.lastore, 1) := dk_80 (dk_at dksX0_isRight_5 21 rfl rfl)
theorem dX0_isRight_136 : decode cX0_isRight 136 = .ok (.aload_n 0, 1) := dk_42 (dk_at dksX0_isRight_5 22 rfl rfl)
theorem dX0_isRight_137 : decode cX0_isRight 137 = .ok (.getfield 70, 3) := dk_180 0 70 (dk_at dksX0_isRight_6 0 rfl rfl)
theorem dX0_isRight_140 : decode cX0_isRight 140 = .ok (.iconst 3, 1) := dk_6 (dk_at dksX0_isRight_6 3 rfl rfl)
theorem dX0_isRight_141 : decode cX0_isRight 141 = .ok (.dup2, 1) := dk_92 (dk_at dksX0_isRight_6 4 rfl rfl)
theorem dX0_isRight_142 : decode cX0_isRight 142 = .ok (.laload, 1) := dk_47 (dk_at dksX0_isRight_6 5 rfl rfl)
theorem dX0_isRight_143 : decode cX0_isRight 143 = .ok (.aload_n 0, 1) := dk_42 (dk_at dksX0_isRight_6 6 rfl rfl)
theorem dX0_isRight_144 : decode cX0_isRight 144 = .ok (.getfield 70, 3) := dk_180 0 70 (dk_at dksX0_isRight_6 7 rfl rfl)
theorem dX0_isRight_147 : decode cX0_isRight 147 = .ok (.iconst 4, 1) := dk_7 (dk_at dksX0_isRight_6 10 rfl rfl)
theorem dX0_isRight_148 : decode cX0_isRight 148 = .ok (.laload, 1) := dk_47 (dk_at dksX0_isRight_6 11 rfl rfl)
theorem dX0_isRight_149 : decode cX0_isRight 149 = .ok (.ladd, 1) := dk_97 (dk_at dksX0_isRight_6 12 rfl rfl)
theorem dX0_isRight_150 : decode cX0_isRight 150 = .ok (.lastore, 1) := dk_80 (dk_at dksX0_isRight_6 13 rfl rfl)
theorem dX0_isRight_151 : decode cX0_isRight 151 = .ok (.iinc 6 1, 3) := dk_132 6 1 (dk_at dksX0_isRight_6 14 rfl rfl)
theorem dX0_isRight_154 : decode cX0_isRight 154 = .ok (.goto (-103), 3) := dk_167 255 153 (dk_at dksX0_isRight_6 17 rfl rfl)
theorem dX0_isRight_157 : decode cX0_isRight 157 = .ok (.iconst 1, 1) := dk_4 (dk_at dksX0_isRight_6 20 rfl rfl)
theorem dX0_isRight_158 : decode cX0_isRight 158 = .ok (.ireturn, 1) := dk_172 (dk_at dksX0_isRight_6 21 rfl rfl)
abbrev cX0_rounded : ByteArray := prog_1_method_29_code
def yX0_rounded : MethodName := ⟨RX0, "rounded", "(JJJ)J"⟩
def dkwX0_rounded_1 : List UInt8 := [105, 22, 4, 105, 32, 97, 20, 0, 208, 32, 105, 109, 97, 173]
abbrev dktX0_rounded_1 : List UInt8 := dkwX0_rounded_1 ++ []
def dkwX0_rounded_0 : List UInt8 := [30, 32, 184, 1, 32, 55, 6, 30, 32, 184, 1, 36, 55, 8, 22, 6, 22, 4, 105, 20, 0, 208, 22, 8]
abbrev dktX0_rounded_0 : List UInt8 := dkwX0_rounded_0 ++ dktX0_rounded_1
theorem dksX0_rounded_0 : cX0_rounded.data.toList.drop 0 = dktX0_rounded_0 := by decide +kernel
theorem dksX0_rounded_1 : cX0_rounded.data.toList.drop 24 = dktX0_rounded_1 := dk_seg dksX0_rounded_0 24 rfl rfl
theorem dX0_rounded_0 : decode cX0_rounded 0 = .ok (.lload_n 0, 1) := dk_30 (dk_at dksX0_rounded_0 0 rfl rfl)
theorem dX0_rounded_1 : decode cX0_rounded 1 = .ok (.lload_n 2, 1) := dk_32 (dk_at dksX0_rounded_0 1 rfl rfl)
theorem dX0_rounded_2 : decode cX0_rounded 2 = .ok (.invokestatic 288, 3) := dk_184 1 32 (dk_at dksX0_rounded_0 2 rfl rfl)
theorem dX0_rounded_5 : decode cX0_rounded 5 = .ok (.lstore 6, 2) := dk_55 6 (dk_at dksX0_rounded_0 5 rfl rfl)
theorem dX0_rounded_7 : decode cX0_rounded 7 = .ok (.lload_n 0, 1) := dk_30 (dk_at dksX0_rounded_0 7 rfl rfl)
theorem dX0_rounded_8 : decode cX0_rounded 8 = .ok (.lload_n 2, 1) := dk_32 (dk_at dksX0_rounded_0 8 rfl rfl)
theorem dX0_rounded_9 : decode cX0_rounded 9 = .ok (.invokestatic 292, 3) := dk_184 1 36 (dk_at dksX0_rounded_0 9 rfl rfl)
theorem dX0_rounded_12 : decode cX0_rounded 12 = .ok (.lstore 8, 2) := dk_55 8 (dk_at dksX0_rounded_0 12 rfl rfl)
theorem dX0_rounded_14 : decode cX0_rounded 14 = .ok (.lload 6, 2) := dk_22 6 (dk_at dksX0_rounded_0 14 rfl rfl)
theorem dX0_rounded_16 : decode cX0_rounded 16 = .ok (.lload 4, 2) := dk_22 4 (dk_at dksX0_rounded_0 16 rfl rfl)
theorem dX0_rounded_18 : decode cX0_rounded 18 = .ok (.lmul, 1) := dk_105 (dk_at dksX0_rounded_0 18 rfl rfl)
theorem dX0_rounded_19 : decode cX0_rounded 19 = .ok (.ldc2_w 208, 3) := dk_20 0 208 (dk_at dksX0_rounded_0 19 rfl rfl)
theorem dX0_rounded_22 : decode cX0_rounded 22 = .ok (.lload 8, 2) := dk_22 8 (dk_at dksX0_rounded_0 22 rfl rfl)
theorem dX0_rounded_24 : decode cX0_rounded 24 = .ok (.lmul, 1) := dk_105 (dk_at dksX0_rounded_1 0 rfl rfl)
theorem dX0_rounded_25 : decode cX0_rounded 25 = .ok (.lload 4, 2) := dk_22 4 (dk_at dksX0_rounded_1 1 rfl rfl)
theorem dX0_rounded_27 : decode cX0_rounded 27 = .ok (.lmul, 1) := dk_105 (dk_at dksX0_rounded_1 3 rfl rfl)
theorem dX0_rounded_28 : decode cX0_rounded 28 = .ok (.lload_n 2, 1) := dk_32 (dk_at dksX0_rounded_1 4 rfl rfl)
theorem dX0_rounded_29 : decode cX0_rounded 29 = .ok (.ladd, 1) := dk_97 (dk_at dksX0_rounded_1 5 rfl rfl)
theorem dX0_rounded_30 : decode cX0_rounded 30 = .ok (.ldc2_w 208, 3) := dk_20 0 208 (dk_at dksX0_rounded_1 6 rfl rfl)
theorem dX0_rounded_33 : decode cX0_rounded 33 = .ok (.lload_n 2, 1) := dk_32 (dk_at dksX0_rounded_1 9 rfl rfl)
theorem dX0_rounded_34 : decode cX0_rounded 34 = .ok (.lmul, 1) := dk_105 (dk_at dksX0_rounded_1 10 rfl rfl)
theorem dX0_rounded_35 : decode cX0_rounded 35 = .ok (.ldiv, 1) := dk_109 (dk_at dksX0_rounded_1 11 rfl rfl)
theorem dX0_rounded_36 : decode cX0_rounded 36 = .ok (.ladd, 1) := dk_97 (dk_at dksX0_rounded_1 12 rfl rfl)
theorem dX0_rounded_37 : decode cX0_rounded 37 = .ok (.lreturn, 1) := dk_173 (dk_at dksX0_rounded_1 13 rfl rfl)
abbrev cX0_feed : ByteArray := prog_1_method_32_code
def yX0_feed : MethodName := ⟨RX0, "feed", "(IIIII)I"⟩
def dkwX0_feed_2 : List UInt8 := [180, 0, 33, 180, 1, 61, 172]
abbrev dktX0_feed_2 : List UInt8 := dkwX0_feed_2 ++ []
def dkwX0_feed_1 : List UInt8 := [28, 182, 1, 64, 42, 29, 182, 1, 64, 42, 21, 4, 182, 1, 64, 42, 21, 5, 182, 1, 64, 42]
abbrev dktX0_feed_1 : List UInt8 := dkwX0_feed_1 ++ dktX0_feed_2
def dkwX0_feed_0 : List UInt8 := [42, 180, 0, 33, 180, 1, 61, 16, 20, 96, 17, 1, 244, 164, 0, 5, 2, 172, 42, 27, 182, 1, 64, 42]
abbrev dktX0_feed_0 : List UInt8 := dkwX0_feed_0 ++ dktX0_feed_1
theorem dksX0_feed_0 : cX0_feed.data.toList.drop 0 = dktX0_feed_0 := by decide +kernel
theorem dksX0_feed_1 : cX0_feed.data.toList.drop 24 = dktX0_feed_1 := dk_seg dksX0_feed_0 24 rfl rfl
theorem dksX0_feed_2 : cX0_feed.data.toList.drop 46 = dktX0_feed_2 := dk_seg dksX0_feed_1 22 rfl rfl
theorem dX0_feed_0 : decode cX0_feed 0 = .ok (.aload_n 0, 1) := dk_42 (dk_at dksX0_feed_0 0 rfl rfl)
theorem dX0_feed_1 : decode cX0_feed 1 = .ok (.getfield 33, 3) := dk_180 0 33 (dk_at dksX0_feed_0 1 rfl rfl)
theorem dX0_feed_4 : decode cX0_feed 4 = .ok (.getfield 317, 3) := dk_180 1 61 (dk_at dksX0_feed_0 4 rfl rfl)
theorem dX0_feed_7 : decode cX0_feed 7 = .ok (.bipush 20, 2) := dk_16 20 (dk_at dksX0_feed_0 7 rfl rfl)
theorem dX0_feed_9 : decode cX0_feed 9 = .ok (.iadd, 1) := dk_96 (dk_at dksX0_feed_0 9 rfl rfl)
theorem dX0_feed_10 : decode cX0_feed 10 = .ok (.sipush 500, 3) := dk_17 1 244 (dk_at dksX0_feed_0 10 rfl rfl)
theorem dX0_feed_13 : decode cX0_feed 13 = .ok (.if_icmp .le 5, 3) := dk_164 0 5 (dk_at dksX0_feed_0 13 rfl rfl)
theorem dX0_feed_16 : decode cX0_feed 16 = .ok (.iconst (-1), 1) := dk_2 (dk_at dksX0_feed_0 16 rfl rfl)
theorem dX0_feed_17 : decode cX0_feed 17 = .ok (.ireturn, 1) := dk_172 (dk_at dksX0_feed_0 17 rfl rfl)
theorem dX0_feed_18 : decode cX0_feed 18 = .ok (.aload_n 0, 1) := dk_42 (dk_at dksX0_feed_0 18 rfl rfl)
theorem dX0_feed_19 : decode cX0_feed 19 = .ok (.iload_n 1, 1) := dk_27 (dk_at dksX0_feed_0 19 rfl rfl)
theorem dX0_feed_20 : decode cX0_feed 20 = .ok (.invokevirtual 320, 3) := dk_182 1 64 (dk_at dksX0_feed_0 20 rfl rfl)
theorem dX0_feed_23 : decode cX0_feed 23 = .ok (.aload_n 0, 1) := dk_42 (dk_at dksX0_feed_0 23 rfl rfl)
theorem dX0_feed_24 : decode cX0_feed 24 = .ok (.iload_n 2, 1) := dk_28 (dk_at dksX0_feed_1 0 rfl rfl)
theorem dX0_feed_25 : decode cX0_feed 25 = .ok (.invokevirtual 320, 3) := dk_182 1 64 (dk_at dksX0_feed_1 1 rfl rfl)
theorem dX0_feed_28 : decode cX0_feed 28 = .ok (.aload_n 0, 1) := dk_42 (dk_at dksX0_feed_1 4 rfl rfl)
theorem dX0_feed_29 : decode cX0_feed 29 = .ok (.iload_n 3, 1) := dk_29 (dk_at dksX0_feed_1 5 rfl rfl)
theorem dX0_feed_30 : decode cX0_feed 30 = .ok (.invokevirtual 320, 3) := dk_182 1 64 (dk_at dksX0_feed_1 6 rfl rfl)
theorem dX0_feed_33 : decode cX0_feed 33 = .ok (.aload_n 0, 1) := dk_42 (dk_at dksX0_feed_1 9 rfl rfl)
theorem dX0_feed_34 : decode cX0_feed 34 = .ok (.iload 4, 2) := dk_21 4 (dk_at dksX0_feed_1 10 rfl rfl)
theorem dX0_feed_36 : decode cX0_feed 36 = .ok (.invokevirtual 320, 3) := dk_182 1 64 (dk_at dksX0_feed_1 12 rfl rfl)
theorem dX0_feed_39 : decode cX0_feed 39 = .ok (.aload_n 0, 1) := dk_42 (dk_at dksX0_feed_1 15 rfl rfl)
theorem dX0_feed_40 : decode cX0_feed 40 = .ok (.iload 5, 2) := dk_21 5 (dk_at dksX0_feed_1 16 rfl rfl)
theorem dX0_feed_42 : decode cX0_feed 42 = .ok (.invokevirtual 320, 3) := dk_182 1 64 (dk_at dksX0_feed_1 18 rfl rfl)
theorem dX0_feed_45 : decode cX0_feed 45 = .ok (.aload_n 0, 1) := dk_42 (dk_at dksX0_feed_1 21 rfl rfl)
theorem dX0_feed_46 : decode cX0_feed 46 = .ok (.getfield 33, 3) := dk_180 0 33 (dk_at dksX0_feed_2 0 rfl rfl)
theorem dX0_feed_49 : decode cX0_feed 49 = .ok (.getfield 317, 3) := dk_180 1 61 (dk_at dksX0_feed_2 3 rfl rfl)
theorem dX0_feed_52 : decode cX0_feed 52 = .ok (.ireturn, 1) := dk_172 (dk_at dksX0_feed_2 6 rfl rfl)
abbrev cX0_four : ByteArray := prog_1_method_33_code
def yX0_four : MethodName := ⟨RX0, "four", "(I)V"⟩
def dkwX0_four_1 : List UInt8 := [145, 84, 42, 180, 0, 33, 89, 180, 1, 61, 4, 96, 181, 1, 61, 132, 2, 248, 167, 255, 217, 177]
abbrev dktX0_four_1 : List UInt8 := dkwX0_four_1 ++ []
def dkwX0_four_0 : List UInt8 := [16, 24, 61, 28, 155, 0, 41, 42, 180, 0, 33, 180, 1, 67, 42, 180, 0, 33, 180, 1, 61, 27, 28, 122]
abbrev dktX0_four_0 : List UInt8 := dkwX0_four_0 ++ dktX0_four_1
theorem dksX0_four_0 : cX0_four.data.toList.drop 0 = dktX0_four_0 := by decide +kernel
theorem dksX0_four_1 : cX0_four.data.toList.drop 24 = dktX0_four_1 := dk_seg dksX0_four_0 24 rfl rfl
theorem dX0_four_0 : decode cX0_four 0 = .ok (.bipush 24, 2) := dk_16 24 (dk_at dksX0_four_0 0 rfl rfl)
theorem dX0_four_2 : decode cX0_four 2 = .ok (.istore_n 2, 1) := dk_61 (dk_at dksX0_four_0 2 rfl rfl)
theorem dX0_four_3 : decode cX0_four 3 = .ok (.iload_n 2, 1) := dk_28 (dk_at dksX0_four_0 3 rfl rfl)
theorem dX0_four_4 : decode cX0_four 4 = .ok (.ifCond .lt 41, 3) := dk_155 0 41 (dk_at dksX0_four_0 4 rfl rfl)
theorem dX0_four_7 : decode cX0_four 7 = .ok (.aload_n 0, 1) := dk_42 (dk_at dksX0_four_0 7 rfl rfl)
theorem dX0_four_8 : decode cX0_four 8 = .ok (.getfield 33, 3) := dk_180 0 33 (dk_at dksX0_four_0 8 rfl rfl)
theorem dX0_four_11 : decode cX0_four 11 = .ok (.getfield 323, 3) := dk_180 1 67 (dk_at dksX0_four_0 11 rfl rfl)
theorem dX0_four_14 : decode cX0_four 14 = .ok (.aload_n 0, 1) := dk_42 (dk_at dksX0_four_0 14 rfl rfl)
theorem dX0_four_15 : decode cX0_four 15 = .ok (.getfield 33, 3) := dk_180 0 33 (dk_at dksX0_four_0 15 rfl rfl)
theorem dX0_four_18 : decode cX0_four 18 = .ok (.getfield 317, 3) := dk_180 1 61 (dk_at dksX0_four_0 18 rfl rfl)
theorem dX0_four_21 : decode cX0_four 21 = .ok (.iload_n 1, 1) := dk_27 (dk_at dksX0_four_0 21 rfl rfl)
theorem dX0_four_22 : decode cX0_four 22 = .ok (.iload_n 2, 1) := dk_28 (dk_at dksX0_four_0 22 rfl rfl)
theorem dX0_four_23 : decode cX0_four 23 = .ok (.ishr, 1) := dk_122 (dk_at dksX0_four_0 23 rfl rfl)
theorem dX0_four_24 : decode cX0_four 24 = .ok (.i2b, 1) := dk_145 (dk_at dksX0_four_1 0 rfl rfl)
theorem dX0_four_25 : decode cX0_four 25 = .ok (.bastore, 1) := dk_84 (dk_at dksX0_four_1 1 rfl rfl)
theorem dX0_four_26 : decode cX0_four 26 = .ok (.aload_n 0, 1) := dk_42 (dk_at dksX0_four_1 2 rfl rfl)
theorem dX0_four_27 : decode cX0_four 27 = .ok (.getfield 33, 3) := dk_180 0 33 (dk_at dksX0_four_1 3 rfl rfl)
theorem dX0_four_30 : decode cX0_four 30 = .ok (.dup, 1) := dk_89 (dk_at dksX0_four_1 6 rfl rfl)
theorem dX0_four_31 : decode cX0_four 31 = .ok (.getfield 317, 3) := dk_180 1 61 (dk_at dksX0_four_1 7 rfl rfl)
theorem dX0_four_34 : decode cX0_four 34 = .ok (.iconst 1, 1) := dk_4 (dk_at dksX0_four_1 10 rfl rfl)
theorem dX0_four_35 : decode cX0_four 35 = .ok (.iadd, 1) := dk_96 (dk_at dksX0_four_1 11 rfl rfl)
theorem dX0_four_36 : decode cX0_four 36 = .ok (.putfield 317, 3) := dk_181 1 61 (dk_at dksX0_four_1 12 rfl rfl)
theorem dX0_four_39 : decode cX0_four 39 = .ok (.iinc 2 (-8), 3) := dk_132 2 248 (dk_at dksX0_four_1 15 rfl rfl)
theorem dX0_four_42 : decode cX0_four 42 = .ok (.goto (-39), 3) := dk_167 255 217 (dk_at dksX0_four_1 18 rfl rfl)
theorem dX0_four_45 : decode cX0_four 45 = .ok (.return_, 1) := dk_177 (dk_at dksX0_four_1 21 rfl rfl)
abbrev cX0_cards : ByteArray := prog_1_method_34_code
def yX0_cards : MethodName := ⟨RX0, "cards", "(I)I"⟩
def dkwX0_cards_4 : List UInt8 := [45, 181, 0, 43, 42, 28, 181, 0, 46, 42, 28, 182, 0, 215, 172]
abbrev dktX0_cards_4 : List UInt8 := dkwX0_cards_4 ++ []
def dkwX0_cards_3 : List UInt8 := [181, 0, 53, 42, 16, 10, 182, 0, 169, 172, 42, 180, 0, 39, 78, 42, 42, 180, 0, 43, 181, 0, 39, 42]
abbrev dktX0_cards_3 : List UInt8 := dkwX0_cards_3 ++ dktX0_cards_4
def dkwX0_cards_2 : List UInt8 := [180, 0, 43, 182, 1, 71, 61, 167, 0, 27, 78, 42, 45, 180, 1, 75, 181, 0, 50, 42, 45, 180, 1, 78]
abbrev dktX0_cards_2 : List UInt8 := dkwX0_cards_2 ++ dktX0_cards_3
def dkwX0_cards_1 : List UInt8 := [180, 0, 33, 3, 181, 1, 61, 42, 3, 181, 0, 50, 42, 2, 181, 0, 53, 42, 180, 0, 33, 27, 42]
abbrev dktX0_cards_1 : List UInt8 := dkwX0_cards_1 ++ dktX0_cards_2
def dkwX0_cards_0 : List UInt8 := [27, 155, 0, 14, 27, 42, 180, 0, 33, 180, 1, 61, 164, 0, 9, 42, 8, 182, 0, 169, 172, 42]
abbrev dktX0_cards_0 : List UInt8 := dkwX0_cards_0 ++ dktX0_cards_1
theorem dksX0_cards_0 : cX0_cards.data.toList.drop 0 = dktX0_cards_0 := by decide +kernel
theorem dksX0_cards_1 : cX0_cards.data.toList.drop 22 = dktX0_cards_1 := dk_seg dksX0_cards_0 22 rfl rfl
theorem dksX0_cards_2 : cX0_cards.data.toList.drop 45 = dktX0_cards_2 := dk_seg dksX0_cards_1 23 rfl rfl
theorem dksX0_cards_3 : cX0_cards.data.toList.drop 69 = dktX0_cards_3 := dk_seg dksX0_cards_2 24 rfl rfl
theorem dksX0_cards_4 : cX0_cards.data.toList.drop 93 = dktX0_cards_4 := dk_seg dksX0_cards_3 24 rfl rfl
theorem dX0_cards_0 : decode cX0_cards 0 = .ok (.iload_n 1, 1) := dk_27 (dk_at dksX0_cards_0 0 rfl rfl)
theorem dX0_cards_1 : decode cX0_cards 1 = .ok (.ifCond .lt 14, 3) := dk_155 0 14 (dk_at dksX0_cards_0 1 rfl rfl)
theorem dX0_cards_4 : decode cX0_cards 4 = .ok (.iload_n 1, 1) := dk_27 (dk_at dksX0_cards_0 4 rfl rfl)
theorem dX0_cards_5 : decode cX0_cards 5 = .ok (.aload_n 0, 1) := dk_42 (dk_at dksX0_cards_0 5 rfl rfl)
theorem dX0_cards_6 : decode cX0_cards 6 = .ok (.getfield 33, 3) := dk_180 0 33 (dk_at dksX0_cards_0 6 rfl rfl)
theorem dX0_cards_9 : decode cX0_cards 9 = .ok (.getfield 317, 3) := dk_180 1 61 (dk_at dksX0_cards_0 9 rfl rfl)
theorem dX0_cards_12 : decode cX0_cards 12 = .ok (.if_icmp .le 9, 3) := dk_164 0 9 (dk_at dksX0_cards_0 12 rfl rfl)
theorem dX0_cards_15 : decode cX0_cards 15 = .ok (.aload_n 0, 1) := dk_42 (dk_at dksX0_cards_0 15 rfl rfl)
theorem dX0_cards_16 : decode cX0_cards 16 = .ok (.iconst 5, 1) := dk_8 (dk_at dksX0_cards_0 16 rfl rfl)
theorem dX0_cards_17 : decode cX0_cards 17 = .ok (.invokevirtual 169, 3) := dk_182 0 169 (dk_at dksX0_cards_0 17 rfl rfl)
theorem dX0_cards_20 : decode cX0_cards 20 = .ok (.ireturn, 1) := dk_172 (dk_at dksX0_cards_0 20 rfl rfl)
theorem dX0_cards_21 : decode cX0_cards 21 = .ok (.aload_n 0, 1) := dk_42 (dk_at dksX0_cards_0 21 rfl rfl)
theorem dX0_cards_22 : decode cX0_cards 22 = .ok (.getfield 33, 3) := dk_180 0 33 (dk_at dksX0_cards_1 0 rfl rfl)
theorem dX0_cards_25 : decode cX0_cards 25 = .ok (.iconst 0, 1) := dk_3 (dk_at dksX0_cards_1 3 rfl rfl)
theorem dX0_cards_26 : decode cX0_cards 26 = .ok (.putfield 317, 3) := dk_181 1 61 (dk_at dksX0_cards_1 4 rfl rfl)
theorem dX0_cards_29 : decode cX0_cards 29 = .ok (.aload_n 0, 1) := dk_42 (dk_at dksX0_cards_1 7 rfl rfl)
theorem dX0_cards_30 : decode cX0_cards 30 = .ok (.iconst 0, 1) := dk_3 (dk_at dksX0_cards_1 8 rfl rfl)
theorem dX0_cards_31 : decode cX0_cards 31 = .ok (.putfield 50, 3) := dk_181 0 50 (dk_at dksX0_cards_1 9 rfl rfl)
theorem dX0_cards_34 : decode cX0_cards 34 = .ok (.aload_n 0, 1) := dk_42 (dk_at dksX0_cards_1 12 rfl rfl)
theorem dX0_cards_35 : decode cX0_cards 35 = .ok (.iconst (-1), 1) := dk_2 (dk_at dksX0_cards_1 13 rfl rfl)
theorem dX0_cards_36 : decode cX0_cards 36 = .ok (.putfield 53, 3) := dk_181 0 53 (dk_at dksX0_cards_1 14 rfl rfl)
theorem dX0_cards_39 : decode cX0_cards 39 = .ok (.aload_n 0, 1) := dk_42 (dk_at dksX0_cards_1 17 rfl rfl)
theorem dX0_cards_40 : decode cX0_cards 40 = .ok (.getfield 33, 3) := dk_180 0 33 (dk_at dksX0_cards_1 18 rfl rfl)
theorem dX0_cards_43 : decode cX0_cards 43 = .ok (.iload_n 1, 1) := dk_27 (dk_at dksX0_cards_1 21 rfl rfl)
theorem dX0_cards_44 : decode cX0_cards 44 = .ok (.aload_n 0, 1) := dk_42 (dk_at dksX0_cards_1 22 rfl rfl)
theorem dX0_cards_45 : decode cX0_cards 45 = .ok (.getfield 43, 3) := dk_180 0 43 (dk_at dksX0_cards_2 0 rfl rfl)
theorem dX0_cards_48 : decode cX0_cards 48 = .ok (.invokevirtual 327, 3) := dk_182 1 71 (dk_at dksX0_cards_2 3 rfl rfl)
theorem dX0_cards_51 : decode cX0_cards 51 = .ok (.istore_n 2, 1) := dk_61 (dk_at dksX0_cards_2 6 rfl rfl)
theorem dX0_cards_52 : decode cX0_cards 52 = .ok (.goto 27, 3) := dk_167 0 27 (dk_at dksX0_cards_2 7 rfl rfl)
theorem dX0_cards_55 : decode cX0_cards 55 = .ok (.astore_n 3, 1) := dk_78 (dk_at dksX0_cards_2 10 rfl rfl)
theorem dX0_cards_56 : decode cX0_cards 56 = .ok (.aload_n 0, 1) := dk_42 (dk_at dksX0_cards_2 11 rfl rfl)
theorem dX0_cards_57 : decode cX0_cards 57 = .ok (.aload_n 3, 1) := dk_45 (dk_at dksX0_cards_2 12 rfl rfl)
theorem dX0_cards_58 : decode cX0_cards 58 = .ok (.getfield 331, 3) := dk_180 1 75 (dk_at dksX0_cards_2 13 rfl rfl)
theorem dX0_cards_61 : decode cX0_cards 61 = .ok (.putfield 50, 3) := dk_181 0 50 (dk_at dksX0_cards_2 16 rfl rfl)
theorem dX0_cards_64 : decode cX0_cards 64 = .ok (.aload_n 0, 1) := dk_42 (dk_at dksX0_cards_2 19 rfl rfl)
theorem dX0_cards_65 : decode cX0_cards 65 = .ok (.aload_n 3, 1) := dk_45 (dk_at dksX0_cards_2 20 rfl rfl)
theorem dX0_cards_66 : decode cX0_cards 66 = .ok (.getfield 334, 3) := dk_180 1 78 (dk_at dksX0_cards_2 21 rfl rfl)
theorem dX0_cards_69 : decode cX0_cards 69 = .ok (.putfield 53, 3) := dk_181 0 53 (dk_at dksX0_cards_3 0 rfl rfl)
theorem dX0_cards_72 : decode cX0_cards 72 = .ok (.aload_n 0, 1) := dk_42 (dk_at dksX0_cards_3 3 rfl rfl)
theorem dX0_cards_73 : decode cX0_cards 73 = .ok (.bipush 10, 2) := dk_16 10 (dk_at dksX0_cards_3 4 rfl rfl)
theorem dX0_cards_75 : decode cX0_cards 75 = .ok (.invokevirtual 169, 3) := dk_182 0 169 (dk_at dksX0_cards_3 6 rfl rfl)
theorem dX0_cards_78 : decode cX0_cards 78 = .ok (.ireturn, 1) := dk_172 (dk_at dksX0_cards_3 9 rfl rfl)
theorem dX0_cards_79 : decode cX0_cards 79 = .ok (.aload_n 0, 1) := dk_42 (dk_at dksX0_cards_3 10 rfl rfl)
theorem dX0_cards_80 : decode cX0_cards 80 = .ok (.getfield 39, 3) := dk_180 0 39 (dk_at dksX0_cards_3 11 rfl rfl)
theorem dX0_cards_83 : decode cX0_cards 83 = .ok (.astore_n 3, 1) := dk_78 (dk_at dksX0_cards_3 14 rfl rfl)
theorem dX0_cards_84 : decode cX0_cards 84 = .ok (.aload_n 0, 1) := dk_42 (dk_at dksX0_cards_3 15 rfl rfl)
theorem dX0_cards_85 : decode cX0_cards 85 = .ok (.aload_n 0, 1) := dk_42 (dk_at dksX0_cards_3 16 rfl rfl)
theorem dX0_cards_86 : decode cX0_cards 86 = .ok (.getfield 43, 3) := dk_180 0 43 (dk_at dksX0_cards_3 17 rfl rfl)
theorem dX0_cards_89 : decode cX0_cards 89 = .ok (.putfield 39, 3) := dk_181 0 39 (dk_at dksX0_cards_3 20 rfl rfl)
theorem dX0_cards_92 : decode cX0_cards 92 = .ok (.aload_n 0, 1) := dk_42 (dk_at dksX0_cards_3 23 rfl rfl)
theorem dX0_cards_93 : decode cX0_cards 93 = .ok (.aload_n 3, 1) := dk_45 (dk_at dksX0_cards_4 0 rfl rfl)
theorem dX0_cards_94 : decode cX0_cards 94 = .ok (.putfield 43, 3) := dk_181 0 43 (dk_at dksX0_cards_4 1 rfl rfl)
theorem dX0_cards_97 : decode cX0_cards 97 = .ok (.aload_n 0, 1) := dk_42 (dk_at dksX0_cards_4 4 rfl rfl)
theorem dX0_cards_98 : decode cX0_cards 98 = .ok (.iload_n 2, 1) := dk_28 (dk_at dksX0_cards_4 5 rfl rfl)
theorem dX0_cards_99 : decode cX0_cards 99 = .ok (.putfield 46, 3) := dk_181 0 46 (dk_at dksX0_cards_4 6 rfl rfl)
theorem dX0_cards_102 : decode cX0_cards 102 = .ok (.aload_n 0, 1) := dk_42 (dk_at dksX0_cards_4 9 rfl rfl)
theorem dX0_cards_103 : decode cX0_cards 103 = .ok (.iload_n 2, 1) := dk_28 (dk_at dksX0_cards_4 10 rfl rfl)
theorem dX0_cards_104 : decode cX0_cards 104 = .ok (.invokevirtual 215, 3) := dk_182 0 215 (dk_at dksX0_cards_4 11 rfl rfl)
theorem dX0_cards_107 : decode cX0_cards 107 = .ok (.ireturn, 1) := dk_172 (dk_at dksX0_cards_4 14 rfl rfl)
abbrev cX0_fault : ByteArray := prog_1_method_35_code
def yX0_fault : MethodName := ⟨RX0, "fault", "(I)I"⟩
def dkwX0_fault_1 : List UInt8 := [172]
abbrev dktX0_fault_1 : List UInt8 := dkwX0_fault_1 ++ []
def dkwX0_fault_0 : List UInt8 := [27, 154, 0, 10, 42, 180, 0, 50, 167, 0, 16, 27, 4, 160, 0, 10, 42, 180, 0, 53, 167, 0, 4, 2]
abbrev dktX0_fault_0 : List UInt8 := dkwX0_fault_0 ++ dktX0_fault_1
theorem dksX0_fault_0 : cX0_fault.data.toList.drop 0 = dktX0_fault_0 := by decide +kernel
theorem dksX0_fault_1 : cX0_fault.data.toList.drop 24 = dktX0_fault_1 := dk_seg dksX0_fault_0 24 rfl rfl
theorem dX0_fault_0 : decode cX0_fault 0 = .ok (.iload_n 1, 1) := dk_27 (dk_at dksX0_fault_0 0 rfl rfl)
theorem dX0_fault_1 : decode cX0_fault 1 = .ok (.ifCond .ne 10, 3) := dk_154 0 10 (dk_at dksX0_fault_0 1 rfl rfl)
theorem dX0_fault_4 : decode cX0_fault 4 = .ok (.aload_n 0, 1) := dk_42 (dk_at dksX0_fault_0 4 rfl rfl)
theorem dX0_fault_5 : decode cX0_fault 5 = .ok (.getfield 50, 3) := dk_180 0 50 (dk_at dksX0_fault_0 5 rfl rfl)
theorem dX0_fault_8 : decode cX0_fault 8 = .ok (.goto 16, 3) := dk_167 0 16 (dk_at dksX0_fault_0 8 rfl rfl)
theorem dX0_fault_11 : decode cX0_fault 11 = .ok (.iload_n 1, 1) := dk_27 (dk_at dksX0_fault_0 11 rfl rfl)
theorem dX0_fault_12 : decode cX0_fault 12 = .ok (.iconst 1, 1) := dk_4 (dk_at dksX0_fault_0 12 rfl rfl)
theorem dX0_fault_13 : decode cX0_fault 13 = .ok (.if_icmp .ne 10, 3) := dk_160 0 10 (dk_at dksX0_fault_0 13 rfl rfl)
theorem dX0_fault_16 : decode cX0_fault 16 = .ok (.aload_n 0, 1) := dk_42 (dk_at dksX0_fault_0 16 rfl rfl)
theorem dX0_fault_17 : decode cX0_fault 17 = .ok (.getfield 53, 3) := dk_180 0 53 (dk_at dksX0_fault_0 17 rfl rfl)
theorem dX0_fault_20 : decode cX0_fault 20 = .ok (.goto 4, 3) := dk_167 0 4 (dk_at dksX0_fault_0 20 rfl rfl)
theorem dX0_fault_23 : decode cX0_fault 23 = .ok (.iconst (-1), 1) := dk_2 (dk_at dksX0_fault_0 23 rfl rfl)
theorem dX0_fault_24 : decode cX0_fault 24 = .ok (.ireturn, 1) := dk_172 (dk_at dksX0_fault_1 0 rfl rfl)
abbrev cX0_run : ByteArray := prog_1_method_36_code
def yX0_run : MethodName := ⟨RX0, "run", "()I"⟩
def dkwX0_run_5 : List UInt8 := [182, 1, 102, 60, 167, 255, 206, 42, 42, 180, 1, 81, 182, 0, 215, 172]
abbrev dktX0_run_5 : List UInt8 := dkwX0_run_5 ++ []
def dkwX0_run_4 : List UInt8 := [160, 0, 16, 42, 7, 181, 1, 87, 42, 27, 181, 1, 90, 167, 255, 221, 42, 42, 180, 0, 39, 27, 50, 27]
abbrev dktX0_run_4 : List UInt8 := dkwX0_run_4 ++ dktX0_run_5
def dkwX0_run_3 : List UInt8 := [60, 27, 42, 180, 0, 46, 162, 0, 48, 42, 180, 1, 87, 154, 0, 41, 42, 180, 1, 93, 17, 19, 136]
abbrev dktX0_run_3 : List UInt8 := dkwX0_run_3 ++ dktX0_run_4
def dkwX0_run_2 : List UInt8 := [181, 1, 87, 42, 2, 181, 1, 90, 42, 3, 181, 1, 93, 42, 3, 181, 1, 96, 42, 4, 181, 1, 99, 3]
abbrev dktX0_run_2 : List UInt8 := dkwX0_run_2 ++ dktX0_run_3
def dkwX0_run_1 : List UInt8 := [180, 0, 73, 27, 9, 80, 132, 1, 1, 167, 255, 240, 42, 3, 181, 1, 81, 42, 3, 181, 1, 84, 42, 3]
abbrev dktX0_run_1 : List UInt8 := dkwX0_run_1 ++ dktX0_run_2
def dkwX0_run_0 : List UInt8 := [42, 180, 0, 46, 2, 160, 0, 10, 42, 16, 8, 182, 0, 169, 172, 3, 60, 27, 16, 20, 162, 0, 16, 42]
abbrev dktX0_run_0 : List UInt8 := dkwX0_run_0 ++ dktX0_run_1
theorem dksX0_run_0 : cX0_run.data.toList.drop 0 = dktX0_run_0 := by decide +kernel
theorem dksX0_run_1 : cX0_run.data.toList.drop 24 = dktX0_run_1 := dk_seg dksX0_run_0 24 rfl rfl
theorem dksX0_run_2 : cX0_run.data.toList.drop 48 = dktX0_run_2 := dk_seg dksX0_run_1 24 rfl rfl
theorem dksX0_run_3 : cX0_run.data.toList.drop 72 = dktX0_run_3 := dk_seg dksX0_run_2 24 rfl rfl
theorem dksX0_run_4 : cX0_run.data.toList.drop 95 = dktX0_run_4 := dk_seg dksX0_run_3 23 rfl rfl
theorem dksX0_run_5 : cX0_run.data.toList.drop 119 = dktX0_run_5 := dk_seg dksX0_run_4 24 rfl rfl
theorem dX0_run_0 : decode cX0_run 0 = .ok (.aload_n 0, 1) := dk_42 (dk_at dksX0_run_0 0 rfl rfl)
theorem dX0_run_1 : decode cX0_run 1 = .ok (.getfield 46, 3) := dk_180 0 46 (dk_at dksX0_run_0 1 rfl rfl)
theorem dX0_run_4 : decode cX0_run 4 = .ok (.iconst (-1), 1) := dk_2 (dk_at dksX0_run_0 4 rfl rfl)
theorem dX0_run_5 : decode cX0_run 5 = .ok (.if_icmp .ne 10, 3) := dk_160 0 10 (dk_at dksX0_run_0 5 rfl rfl)
theorem dX0_run_8 : decode cX0_run 8 = .ok (.aload_n 0, 1) := dk_42 (dk_at dksX0_run_0 8 rfl rfl)
theorem dX0_run_9 : decode cX0_run 9 = .ok (.bipush 8, 2) := dk_16 8 (dk_at dksX0_run_0 9 rfl rfl)
theorem dX0_run_11 : decode cX0_run 11 = .ok (.invokevirtual 169, 3) := dk_182 0 169 (dk_at dksX0_run_0 11 rfl rfl)
theorem dX0_run_14 : decode cX0_run 14 = .ok (.ireturn, 1) := dk_172 (dk_at dksX0_run_0 14 rfl rfl)
theorem dX0_run_15 : decode cX0_run 15 = .ok (.iconst 0, 1) := dk_3 (dk_at dksX0_run_0 15 rfl rfl)
theorem dX0_run_16 : decode cX0_run 16 = .ok (.istore_n 1, 1) := dk_60 (dk_at dksX0_run_0 16 rfl rfl)
theorem dX0_run_17 : decode cX0_run 17 = .ok (.iload_n 1, 1) := dk_27 (dk_at dksX0_run_0 17 rfl rfl)
theorem dX0_run_18 : decode cX0_run 18 = .ok (.bipush 20, 2) := dk_16 20 (dk_at dksX0_run_0 18 rfl rfl)
theorem dX0_run_20 : decode cX0_run 20 = .ok (.if_icmp .ge 16, 3) := dk_162 0 16 (dk_at dksX0_run_0 20 rfl rfl)
theorem dX0_run_23 : decode cX0_run 23 = .ok (.aload_n 0, 1) := dk_42 (dk_at dksX0_run_0 23 rfl rfl)
theorem dX0_run_24 : decode cX0_run 24 = .ok (.getfield 73, 3) := dk_180 0 73 (dk_at dksX0_run_1 0 rfl rfl)
theorem dX0_run_27 : decode cX0_run 27 = .ok (.iload_n 1, 1) := dk_27 (dk_at dksX0_run_1 3 rfl rfl)
theorem dX0_run_28 : decode cX0_run 28 = .ok (.lconst 0, 1) := dk_9 (dk_at dksX0_run_1 4 rfl rfl)
theorem dX0_run_29 : decode cX0_run 29 = .ok (.lastore, 1) := dk_80 (dk_at dksX0_run_1 5 rfl rfl)
theorem dX0_run_30 : decode cX0_run 30 = .ok (.iinc 1 1, 3) := dk_132 1 1 (dk_at dksX0_run_1 6 rfl rfl)
theorem dX0_run_33 : decode cX0_run 33 = .ok (.goto (-16), 3) := dk_167 255 240 (dk_at dksX0_run_1 9 rfl rfl)
theorem dX0_run_36 : decode cX0_run 36 = .ok (.aload_n 0, 1) := dk_42 (dk_at dksX0_run_1 12 rfl rfl)
theorem dX0_run_37 : decode cX0_run 37 = .ok (.iconst 0, 1) := dk_3 (dk_at dksX0_run_1 13 rfl rfl)
theorem dX0_run_38 : decode cX0_run 38 = .ok (.putfield 337, 3) := dk_181 1 81 (dk_at dksX0_run_1 14 rfl rfl)
theorem dX0_run_41 : decode cX0_run 41 = .ok (.aload_n 0, 1) := dk_42 (dk_at dksX0_run_1 17 rfl rfl)
theorem dX0_run_42 : decode cX0_run 42 = .ok (.iconst 0, 1) := dk_3 (dk_at dksX0_run_1 18 rfl rfl)
theorem dX0_run_43 : decode cX0_run 43 = .ok (.putfield 340, 3) := dk_181 1 84 (dk_at dksX0_run_1 19 rfl rfl)
theorem dX0_run_46 : decode cX0_run 46 = .ok (.aload_n 0, 1) := dk_42 (dk_at dksX0_run_1 22 rfl rfl)
theorem dX0_run_47 : decode cX0_run 47 = .ok (.iconst 0, 1) := dk_3 (dk_at dksX0_run_1 23 rfl rfl)
theorem dX0_run_48 : decode cX0_run 48 = .ok (.putfield 343, 3) := dk_181 1 87 (dk_at dksX0_run_2 0 rfl rfl)
theorem dX0_run_51 : decode cX0_run 51 = .ok (.aload_n 0, 1) := dk_42 (dk_at dksX0_run_2 3 rfl rfl)
theorem dX0_run_52 : decode cX0_run 52 = .ok (.iconst (-1), 1) := dk_2 (dk_at dksX0_run_2 4 rfl rfl)
theorem dX0_run_53 : decode cX0_run 53 = .ok (.putfield 346, 3) := dk_181 1 90 (dk_at dksX0_run_2 5 rfl rfl)
theorem dX0_run_56 : decode cX0_run 56 = .ok (.aload_n 0, 1) := dk_42 (dk_at dksX0_run_2 8 rfl rfl)
theorem dX0_run_57 : decode cX0_run 57 = .ok (.iconst 0, 1) := dk_3 (dk_at dksX0_run_2 9 rfl rfl)
theorem dX0_run_58 : decode cX0_run 58 = .ok (.putfield 349, 3) := dk_181 1 93 (dk_at dksX0_run_2 10 rfl rfl)
theorem dX0_run_61 : decode cX0_run 61 = .ok (.aload_n 0, 1) := dk_42 (dk_at dksX0_run_2 13 rfl rfl)
theorem dX0_run_62 : decode cX0_run 62 = .ok (.iconst 0, 1) := dk_3 (dk_at dksX0_run_2 14 rfl rfl)
theorem dX0_run_63 : decode cX0_run 63 = .ok (.putfield 352, 3) := dk_181 1 96 (dk_at dksX0_run_2 15 rfl rfl)
theorem dX0_run_66 : decode cX0_run 66 = .ok (.aload_n 0, 1) := dk_42 (dk_at dksX0_run_2 18 rfl rfl)
theorem dX0_run_67 : decode cX0_run 67 = .ok (.iconst 1, 1) := dk_4 (dk_at dksX0_run_2 19 rfl rfl)
theorem dX0_run_68 : decode cX0_run 68 = .ok (.putfield 355, 3) := dk_181 1 99 (dk_at dksX0_run_2 20 rfl rfl)
theorem dX0_run_71 : decode cX0_run 71 = .ok (.iconst 0, 1) := dk_3 (dk_at dksX0_run_2 23 rfl rfl)
theorem dX0_run_72 : decode cX0_run 72 = .ok (.istore_n 1, 1) := dk_60 (dk_at dksX0_run_3 0 rfl rfl)
theorem dX0_run_73 : decode cX0_run 73 = .ok (.iload_n 1, 1) := dk_27 (dk_at dksX0_run_3 1 rfl rfl)
theorem dX0_run_74 : decode cX0_run 74 = .ok (.aload_n 0, 1) := dk_42 (dk_at dksX0_run_3 2 rfl rfl)
theorem dX0_run_75 : decode cX0_run 75 = .ok (.getfield 46, 3) := dk_180 0 46 (dk_at dksX0_run_3 3 rfl rfl)
theorem dX0_run_78 : decode cX0_run 78 = .ok (.if_icmp .ge 48, 3) := dk_162 0 48 (dk_at dksX0_run_3 6 rfl rfl)
theorem dX0_run_81 : decode cX0_run 81 = .ok (.aload_n 0, 1) := dk_42 (dk_at dksX0_run_3 9 rfl rfl)
theorem dX0_run_82 : decode cX0_run 82 = .ok (.getfield 343, 3) := dk_180 1 87 (dk_at dksX0_run_3 10 rfl rfl)
theorem dX0_run_85 : decode cX0_run 85 = .ok (.ifCond .ne 41, 3) := dk_154 0 41 (dk_at dksX0_run_3 13 rfl rfl)
theorem dX0_run_88 : decode cX0_run 88 = .ok (.aload_n 0, 1) := dk_42 (dk_at dksX0_run_3 16 rfl rfl)
theorem dX0_run_89 : decode cX0_run 89 = .ok (.getfield 349, 3) := dk_180 1 93 (dk_at dksX0_run_3 17 rfl rfl)
theorem dX0_run_92 : decode cX0_run 92 = .ok (.sipush 5000, 3) := dk_17 19 136 (dk_at dksX0_run_3 20 rfl rfl)
theorem dX0_run_95 : decode cX0_run 95 = .ok (.if_icmp .ne 16, 3) := dk_160 0 16 (dk_at dksX0_run_4 0 rfl rfl)
theorem dX0_run_98 : decode cX0_run 98 = .ok (.aload_n 0, 1) := dk_42 (dk_at dksX0_run_4 3 rfl rfl)
theorem dX0_run_99 : decode cX0_run 99 = .ok (.iconst 4, 1) := dk_7 (dk_at dksX0_run_4 4 rfl rfl)
theorem dX0_run_100 : decode cX0_run 100 = .ok (.putfield 343, 3) := dk_181 1 87 (dk_at dksX0_run_4 5 rfl rfl)
theorem dX0_run_103 : decode cX0_run 103 = .ok (.aload_n 0, 1) := dk_42 (dk_at dksX0_run_4 8 rfl rfl)
theorem dX0_run_104 : decode cX0_run 104 = .ok (.iload_n 1, 1) := dk_27 (dk_at dksX0_run_4 9 rfl rfl)
theorem dX0_run_105 : decode cX0_run 105 = .ok (.putfield 346, 3) := dk_181 1 90 (dk_at dksX0_run_4 10 rfl rfl)
theorem dX0_run_108 : decode cX0_run 108 = .ok (.goto (-35), 3) := dk_167 255 221 (dk_at dksX0_run_4 13 rfl rfl)
theorem dX0_run_111 : decode cX0_run 111 = .ok (.aload_n 0, 1) := dk_42 (dk_at dksX0_run_4 16 rfl rfl)
theorem dX0_run_112 : decode cX0_run 112 = .ok (.aload_n 0, 1) := dk_42 (dk_at dksX0_run_4 17 rfl rfl)
theorem dX0_run_113 : decode cX0_run 113 = .ok (.getfield 39, 3) := dk_180 0 39 (dk_at dksX0_run_4 18 rfl rfl)
theorem dX0_run_116 : decode cX0_run 116 = .ok (.iload_n 1, 1) := dk_27 (dk_at dksX0_run_4 21 rfl rfl)
theorem dX0_run_117 : decode cX0_run 117 = .ok (.aaload, 1) := dk_50 (dk_at dksX0_run_4 22 rfl rfl)
theorem dX0_run_118 : decode cX0_run 118 = .ok (.iload_n 1, 1) := dk_27 (dk_at dksX0_run_4 23 rfl rfl)
theorem dX0_run_119 : decode cX0_run 119 = .ok (.invokevirtual 358, 3) := dk_182 1 102 (dk_at dksX0_run_5 0 rfl rfl)
theorem dX0_run_122 : decode cX0_run 122 = .ok (.istore_n 1, 1) := dk_60 (dk_at dksX0_run_5 3 rfl rfl)
theorem dX0_run_123 : decode cX0_run 123 = .ok (.goto (-50), 3) := dk_167 255 206 (dk_at dksX0_run_5 4 rfl rfl)
theorem dX0_run_126 : decode cX0_run 126 = .ok (.aload_n 0, 1) := dk_42 (dk_at dksX0_run_5 7 rfl rfl)
theorem dX0_run_127 : decode cX0_run 127 = .ok (.aload_n 0, 1) := dk_42 (dk_at dksX0_run_5 8 rfl rfl)
theorem dX0_run_128 : decode cX0_run 128 = .ok (.getfield 337, 3) := dk_180 1 81 (dk_at dksX0_run_5 9 rfl rfl)
theorem dX0_run_131 : decode cX0_run 131 = .ok (.invokevirtual 215, 3) := dk_182 0 215 (dk_at dksX0_run_5 12 rfl rfl)
theorem dX0_run_134 : decode cX0_run 134 = .ok (.ireturn, 1) := dk_172 (dk_at dksX0_run_5 15 rfl rfl)
abbrev cX0_does : ByteArray := prog_1_method_37_code
def yX0_does : MethodName := ⟨RX0, "does", "(LWheelTables$Card;I)I"⟩
def dkwX0_does_12 : List UInt8 := [4, 96, 181, 1, 93, 28, 4, 96, 172]
abbrev dktX0_does_12 : List UInt8 := dkwX0_does_12 ++ []
def dkwX0_does_11 : List UInt8 := [96, 181, 1, 93, 28, 43, 180, 1, 109, 136, 96, 172, 42, 180, 1, 87, 154, 0, 13, 42, 89, 180, 1, 93]
abbrev dktX0_does_11 : List UInt8 := dkwX0_does_11 ++ dktX0_does_12
def dkwX0_does_10 : List UInt8 := [43, 180, 1, 109, 136, 100, 172, 42, 43, 182, 1, 132, 154, 0, 6, 167, 0, 21, 42, 89, 180, 1, 93, 4]
abbrev dktX0_does_10 : List UInt8 := dkwX0_does_10 ++ dktX0_does_11
def dkwX0_does_9 : List UInt8 := [89, 180, 1, 84, 43, 180, 1, 109, 136, 96, 181, 1, 84, 42, 89, 180, 1, 93, 4, 96, 181, 1, 93, 28]
abbrev dktX0_does_9 : List UInt8 := dkwX0_does_9 ++ dktX0_does_10
def dkwX0_does_8 : List UInt8 := [167, 0, 84, 42, 33, 28, 182, 1, 129, 167, 0, 75, 42, 43, 182, 1, 132, 154, 0, 6, 167, 0, 64, 42]
abbrev dktX0_does_8 : List UInt8 := dkwX0_does_8 ++ dktX0_does_9
def dkwX0_does_7 : List UInt8 := [42, 33, 184, 1, 115, 182, 1, 121, 96, 182, 1, 111, 167, 0, 96, 42, 43, 33, 22, 5, 28, 182, 1, 125]
abbrev dktX0_does_7 : List UInt8 := dkwX0_does_7 ++ dktX0_does_8
def dkwX0_does_6 : List UInt8 := [20, 1, 117, 33, 184, 1, 115, 109, 148, 158, 0, 9, 20, 1, 119, 167, 0, 7, 33, 22, 5, 105, 28, 5]
abbrev dktX0_does_6 : List UInt8 := dkwX0_does_6 ++ dktX0_does_7
def dkwX0_does_5 : List UInt8 := [22, 5, 101, 28, 5, 182, 1, 111, 167, 0, 148, 42, 43, 33, 9, 148, 153, 0, 26, 22, 5, 184, 1, 115]
abbrev dktX0_does_5 : List UInt8 := dkwX0_does_5 ++ dktX0_does_6
def dkwX0_does_4 : List UInt8 := [181, 1, 84, 167, 0, 176, 42, 43, 33, 22, 5, 97, 28, 5, 182, 1, 111, 167, 0, 162, 42, 43, 33]
abbrev dktX0_does_4 : List UInt8 := dkwX0_does_4 ++ dktX0_does_5
def dkwX0_does_3 : List UInt8 := [42, 180, 0, 73, 43, 180, 1, 106, 3, 46, 43, 180, 1, 109, 80, 42, 89, 180, 1, 84, 4, 96]
abbrev dktX0_does_3 : List UInt8 := dkwX0_does_3 ++ dktX0_does_4
def dkwX0_does_2 : List UInt8 := [170, 0, 0, 0, 0, 0, 215, 0, 0, 0, 0, 0, 0, 0, 6, 0, 0, 0, 43, 0, 0, 0, 71, 0, 0, 0, 85, 0, 0, 0, 99, 0, 0, 0, 151, 0, 0, 0, 163, 0, 0, 0, 172]
abbrev dktX0_does_2 : List UInt8 := dkwX0_does_2 ++ dktX0_does_3
def dkwX0_does_1 : List UInt8 := [55, 5, 43, 180, 1, 108]
abbrev dktX0_does_1 : List UInt8 := dkwX0_does_1 ++ dktX0_does_2
def dkwX0_does_0 : List UInt8 := [42, 180, 0, 73, 43, 180, 1, 106, 3, 46, 47, 66, 42, 180, 0, 73, 43, 180, 1, 106, 4, 46, 47]
abbrev dktX0_does_0 : List UInt8 := dkwX0_does_0 ++ dktX0_does_1
theorem dksX0_does_0 : cX0_does.data.toList.drop 0 = dktX0_does_0 := by decide +kernel
theorem dksX0_does_1 : cX0_does.data.toList.drop 23 = dktX0_does_1 := dk_seg dksX0_does_0 23 rfl rfl
theorem dksX0_does_2 : cX0_does.data.toList.drop 29 = dktX0_does_2 := dk_seg dksX0_does_1 6 rfl rfl
theorem dksX0_does_3 : cX0_does.data.toList.drop 72 = dktX0_does_3 := dk_seg dksX0_does_2 43 rfl rfl
theorem dksX0_does_4 : cX0_does.data.toList.drop 94 = dktX0_does_4 := dk_seg dksX0_does_3 22 rfl rfl
theorem dksX0_does_5 : cX0_does.data.toList.drop 117 = dktX0_does_5 := dk_seg dksX0_does_4 23 rfl rfl
theorem dksX0_does_6 : cX0_does.data.toList.drop 141 = dktX0_does_6 := dk_seg dksX0_does_5 24 rfl rfl
theorem dksX0_does_7 : cX0_does.data.toList.drop 165 = dktX0_does_7 := dk_seg dksX0_does_6 24 rfl rfl
theorem dksX0_does_8 : cX0_does.data.toList.drop 189 = dktX0_does_8 := dk_seg dksX0_does_7 24 rfl rfl
theorem dksX0_does_9 : cX0_does.data.toList.drop 213 = dktX0_does_9 := dk_seg dksX0_does_8 24 rfl rfl
theorem dksX0_does_10 : cX0_does.data.toList.drop 237 = dktX0_does_10 := dk_seg dksX0_does_9 24 rfl rfl
theorem dksX0_does_11 : cX0_does.data.toList.drop 261 = dktX0_does_11 := dk_seg dksX0_does_10 24 rfl rfl
theorem dksX0_does_12 : cX0_does.data.toList.drop 285 = dktX0_does_12 := dk_seg dksX0_does_11 24 rfl rfl
theorem dX0_does_0 : decode cX0_does 0 = .ok (.aload_n 0, 1) := dk_42 (dk_at dksX0_does_0 0 rfl rfl)
theorem dX0_does_1 : decode cX0_does 1 = .ok (.getfield 73, 3) := dk_180 0 73 (dk_at dksX0_does_0 1 rfl rfl)
theorem dX0_does_4 : decode cX0_does 4 = .ok (.aload_n 1, 1) := dk_43 (dk_at dksX0_does_0 4 rfl rfl)
theorem dX0_does_5 : decode cX0_does 5 = .ok (.getfield 362, 3) := dk_180 1 106 (dk_at dksX0_does_0 5 rfl rfl)
theorem dX0_does_8 : decode cX0_does 8 = .ok (.iconst 0, 1) := dk_3 (dk_at dksX0_does_0 8 rfl rfl)
theorem dX0_does_9 : decode cX0_does 9 = .ok (.iaload, 1) := dk_46 (dk_at dksX0_does_0 9 rfl rfl)
theorem dX0_does_10 : decode cX0_does 10 = .ok (.laload, 1) := dk_47 (dk_at dksX0_does_0 10 rfl rfl)
theorem dX0_does_11 : decode cX0_does 11 = .ok (.lstore_n 3, 1) := dk_66 (dk_at dksX0_does_0 11 rfl rfl)
theorem dX0_does_12 : decode cX0_does 12 = .ok (.aload_n 0, 1) := dk_42 (dk_at dksX0_does_0 12 rfl rfl)
theorem dX0_does_13 : decode cX0_does 13 = .ok (.getfield 73, 3) := dk_180 0 73 (dk_at dksX0_does_0 13 rfl rfl)
theorem dX0_does_16 : decode cX0_does 16 = .ok (.aload_n 1, 1) := dk_43 (dk_at dksX0_does_0 16 rfl rfl)
theorem dX0_does_17 : decode cX0_does 17 = .ok (.getfield 362, 3) := dk_180 1 106 (dk_at dksX0_does_0 17 rfl rfl)
theorem dX0_does_20 : decode cX0_does 20 = .ok (.iconst 1, 1) := dk_4 (dk_at dksX0_does_0 20 rfl rfl)
theorem dX0_does_21 : decode cX0_does 21 = .ok (.iaload, 1) := dk_46 (dk_at dksX0_does_0 21 rfl rfl)
theorem dX0_does_22 : decode cX0_does 22 = .ok (.laload, 1) := dk_47 (dk_at dksX0_does_0 22 rfl rfl)
theorem dX0_does_23 : decode cX0_does 23 = .ok (.lstore 5, 2) := dk_55 5 (dk_at dksX0_does_1 0 rfl rfl)
theorem dX0_does_25 : decode cX0_does 25 = .ok (.aload_n 1, 1) := dk_43 (dk_at dksX0_does_1 2 rfl rfl)
theorem dX0_does_26 : decode cX0_does 26 = .ok (.getfield 364, 3) := dk_180 1 108 (dk_at dksX0_does_1 3 rfl rfl)
theorem dX0_does_29 : decode cX0_does 29 = .ok (.tableswitch 215 0 6 #[43, 71, 85, 99, 151, 163, 172], 43) := by decide +kernel
theorem dX0_does_72 : decode cX0_does 72 = .ok (.aload_n 0, 1) := dk_42 (dk_at dksX0_does_3 0 rfl rfl)
theorem dX0_does_73 : decode cX0_does 73 = .ok (.getfield 73, 3) := dk_180 0 73 (dk_at dksX0_does_3 1 rfl rfl)
theorem dX0_does_76 : decode cX0_does 76 = .ok (.aload_n 1, 1) := dk_43 (dk_at dksX0_does_3 4 rfl rfl)
theorem dX0_does_77 : decode cX0_does 77 = .ok (.getfield 362, 3) := dk_180 1 106 (dk_at dksX0_does_3 5 rfl rfl)
theorem dX0_does_80 : decode cX0_does 80 = .ok (.iconst 0, 1) := dk_3 (dk_at dksX0_does_3 8 rfl rfl)
theorem dX0_does_81 : decode cX0_does 81 = .ok (.iaload, 1) := dk_46 (dk_at dksX0_does_3 9 rfl rfl)
theorem dX0_does_82 : decode cX0_does 82 = .ok (.aload_n 1, 1) := dk_43 (dk_at dksX0_does_3 10 rfl rfl)
theorem dX0_does_83 : decode cX0_does 83 = .ok (.getfield 365, 3) := dk_180 1 109 (dk_at dksX0_does_3 11 rfl rfl)
theorem dX0_does_86 : decode cX0_does 86 = .ok (.lastore, 1) := dk_80 (dk_at dksX0_does_3 14 rfl rfl)
theorem dX0_does_87 : decode cX0_does 87 = .ok (.aload_n 0, 1) := dk_42 (dk_at dksX0_does_3 15 rfl rfl)
theorem dX0_does_88 : decode cX0_does 88 = .ok (.dup, 1) := dk_89 (dk_at dksX0_does_3 16 rfl rfl)
theorem dX0_does_89 : decode cX0_does 89 = .ok (.getfield 340, 3) := dk_180 1 84 (dk_at dksX0_does_3 17 rfl rfl)
theorem dX0_does_92 : decode cX0_does 92 = .ok (.iconst 1, 1) := dk_4 (dk_at dksX0_does_3 20 rfl rfl)
theorem dX0_does_93 : decode cX0_does 93 = .ok (.iadd, 1) := dk_96 (dk_at dksX0_does_3 21 rfl rfl)
theorem dX0_does_94 : decode cX0_does 94 = .ok (.putfield 340, 3) := dk_181 1 84 (dk_at dksX0_does_4 0 rfl rfl)
theorem dX0_does_97 : decode cX0_does 97 = .ok (.goto 176, 3) := dk_167 0 176 (dk_at dksX0_does_4 3 rfl rfl)
theorem dX0_does_100 : decode cX0_does 100 = .ok (.aload_n 0, 1) := dk_42 (dk_at dksX0_does_4 6 rfl rfl)
theorem dX0_does_101 : decode cX0_does 101 = .ok (.aload_n 1, 1) := dk_43 (dk_at dksX0_does_4 7 rfl rfl)
theorem dX0_does_102 : decode cX0_does 102 = .ok (.lload_n 3, 1) := dk_33 (dk_at dksX0_does_4 8 rfl rfl)
theorem dX0_does_103 : decode cX0_does 103 = .ok (.lload 5, 2) := dk_22 5 (dk_at dksX0_does_4 9 rfl rfl)
theorem dX0_does_105 : decode cX0_does 105 = .ok (.ladd, 1) := dk_97 (dk_at dksX0_does_4 11 rfl rfl)
theorem dX0_does_106 : decode cX0_does 106 = .ok (.iload_n 2, 1) := dk_28 (dk_at dksX0_does_4 12 rfl rfl)
theorem dX0_does_107 : decode cX0_does 107 = .ok (.iconst 2, 1) := dk_5 (dk_at dksX0_does_4 13 rfl rfl)
theorem dX0_does_108 : decode cX0_does 108 = .ok (.invokevirtual 367, 3) := dk_182 1 111 (dk_at dksX0_does_4 14 rfl rfl)
theorem dX0_does_111 : decode cX0_does 111 = .ok (.goto 162, 3) := dk_167 0 162 (dk_at dksX0_does_4 17 rfl rfl)
theorem dX0_does_114 : decode cX0_does 114 = .ok (.aload_n 0, 1) := dk_42 (dk_at dksX0_does_4 20 rfl rfl)
theorem dX0_does_115 : decode cX0_does 115 = .ok (.aload_n 1, 1) := dk_43 (dk_at dksX0_does_4 21 rfl rfl)
theorem dX0_does_116 : decode cX0_does 116 = .ok (.lload_n 3, 1) := dk_33 (dk_at dksX0_does_4 22 rfl rfl)
theorem dX0_does_117 : decode cX0_does 117 = .ok (.lload 5, 2) := dk_22 5 (dk_at dksX0_does_5 0 rfl rfl)
theorem dX0_does_119 : decode cX0_does 119 = .ok (.lsub, 1) := dk_101 (dk_at dksX0_does_5 2 rfl rfl)
theorem dX0_does_120 : decode cX0_does 120 = .ok (.iload_n 2, 1) := dk_28 (dk_at dksX0_does_5 3 rfl rfl)
theorem dX0_does_121 : decode cX0_does 121 = .ok (.iconst 2, 1) := dk_5 (dk_at dksX0_does_5 4 rfl rfl)
theorem dX0_does_122 : decode cX0_does 122 = .ok (.invokevirtual 367, 3) := dk_182 1 111 (dk_at dksX0_does_5 5 rfl rfl)
theorem dX0_does_125 : decode cX0_does 125 = .ok (.goto 148, 3) := dk_167 0 148 (dk_at dksX0_does_5 8 rfl rfl)
theorem dX0_does_128 : decode cX0_does 128 = .ok (.aload_n 0, 1) := dk_42 (dk_at dksX0_does_5 11 rfl rfl)
theorem dX0_does_129 : decode cX0_does 129 = .ok (.aload_n 1, 1) := dk_43 (dk_at dksX0_does_5 12 rfl rfl)
theorem dX0_does_130 : decode cX0_does 130 = .ok (.lload_n 3, 1) := dk_33 (dk_at dksX0_does_5 13 rfl rfl)
theorem dX0_does_131 : decode cX0_does 131 = .ok (.lconst 0, 1) := dk_9 (dk_at dksX0_does_5 14 rfl rfl)
theorem dX0_does_132 : decode cX0_does 132 = .ok (.lcmp, 1) := dk_148 (dk_at dksX0_does_5 15 rfl rfl)
theorem dX0_does_133 : decode cX0_does 133 = .ok (.ifCond .eq 26, 3) := dk_153 0 26 (dk_at dksX0_does_5 16 rfl rfl)
theorem dX0_does_136 : decode cX0_does 136 = .ok (.lload 5, 2) := dk_22 5 (dk_at dksX0_does_5 19 rfl rfl)
theorem dX0_does_138 : decode cX0_does 138 = .ok (.invokestatic 371, 3) := dk_184 1 115 (dk_at dksX0_does_5 21 rfl rfl)
theorem dX0_does_141 : decode cX0_does 141 = .ok (.ldc2_w 373, 3) := dk_20 1 117 (dk_at dksX0_does_6 0 rfl rfl)
theorem dX0_does_144 : decode cX0_does 144 = .ok (.lload_n 3, 1) := dk_33 (dk_at dksX0_does_6 3 rfl rfl)
theorem dX0_does_145 : decode cX0_does 145 = .ok (.invokestatic 371, 3) := dk_184 1 115 (dk_at dksX0_does_6 4 rfl rfl)
theorem dX0_does_148 : decode cX0_does 148 = .ok (.ldiv, 1) := dk_109 (dk_at dksX0_does_6 7 rfl rfl)
theorem dX0_does_149 : decode cX0_does 149 = .ok (.lcmp, 1) := dk_148 (dk_at dksX0_does_6 8 rfl rfl)
theorem dX0_does_150 : decode cX0_does 150 = .ok (.ifCond .le 9, 3) := dk_158 0 9 (dk_at dksX0_does_6 9 rfl rfl)
theorem dX0_does_153 : decode cX0_does 153 = .ok (.ldc2_w 375, 3) := dk_20 1 119 (dk_at dksX0_does_6 12 rfl rfl)
theorem dX0_does_156 : decode cX0_does 156 = .ok (.goto 7, 3) := dk_167 0 7 (dk_at dksX0_does_6 15 rfl rfl)
theorem dX0_does_159 : decode cX0_does 159 = .ok (.lload_n 3, 1) := dk_33 (dk_at dksX0_does_6 18 rfl rfl)
theorem dX0_does_160 : decode cX0_does 160 = .ok (.lload 5, 2) := dk_22 5 (dk_at dksX0_does_6 19 rfl rfl)
theorem dX0_does_162 : decode cX0_does 162 = .ok (.lmul, 1) := dk_105 (dk_at dksX0_does_6 21 rfl rfl)
theorem dX0_does_163 : decode cX0_does 163 = .ok (.iload_n 2, 1) := dk_28 (dk_at dksX0_does_6 22 rfl rfl)
theorem dX0_does_164 : decode cX0_does 164 = .ok (.iconst 2, 1) := dk_5 (dk_at dksX0_does_6 23 rfl rfl)
theorem dX0_does_165 : decode cX0_does 165 = .ok (.aload_n 0, 1) := dk_42 (dk_at dksX0_does_7 0 rfl rfl)
theorem dX0_does_166 : decode cX0_does 166 = .ok (.lload_n 3, 1) := dk_33 (dk_at dksX0_does_7 1 rfl rfl)
theorem dX0_does_167 : decode cX0_does 167 = .ok (.invokestatic 371, 3) := dk_184 1 115 (dk_at dksX0_does_7 2 rfl rfl)
theorem dX0_does_170 : decode cX0_does 170 = .ok (.invokevirtual 377, 3) := dk_182 1 121 (dk_at dksX0_does_7 5 rfl rfl)
theorem dX0_does_173 : decode cX0_does 173 = .ok (.iadd, 1) := dk_96 (dk_at dksX0_does_7 8 rfl rfl)
theorem dX0_does_174 : decode cX0_does 174 = .ok (.invokevirtual 367, 3) := dk_182 1 111 (dk_at dksX0_does_7 9 rfl rfl)
theorem dX0_does_177 : decode cX0_does 177 = .ok (.goto 96, 3) := dk_167 0 96 (dk_at dksX0_does_7 12 rfl rfl)
theorem dX0_does_180 : decode cX0_does 180 = .ok (.aload_n 0, 1) := dk_42 (dk_at dksX0_does_7 15 rfl rfl)
theorem dX0_does_181 : decode cX0_does 181 = .ok (.aload_n 1, 1) := dk_43 (dk_at dksX0_does_7 16 rfl rfl)
theorem dX0_does_182 : decode cX0_does 182 = .ok (.lload_n 3, 1) := dk_33 (dk_at dksX0_does_7 17 rfl rfl)
theorem dX0_does_183 : decode cX0_does 183 = .ok (.lload 5, 2) := dk_22 5 (dk_at dksX0_does_7 18 rfl rfl)
theorem dX0_does_185 : decode cX0_does 185 = .ok (.iload_n 2, 1) := dk_28 (dk_at dksX0_does_7 20 rfl rfl)
theorem dX0_does_186 : decode cX0_does 186 = .ok (.invokevirtual 381, 3) := dk_182 1 125 (dk_at dksX0_does_7 21 rfl rfl)
theorem dX0_does_189 : decode cX0_does 189 = .ok (.goto 84, 3) := dk_167 0 84 (dk_at dksX0_does_8 0 rfl rfl)
theorem dX0_does_192 : decode cX0_does 192 = .ok (.aload_n 0, 1) := dk_42 (dk_at dksX0_does_8 3 rfl rfl)
theorem dX0_does_193 : decode cX0_does 193 = .ok (.lload_n 3, 1) := dk_33 (dk_at dksX0_does_8 4 rfl rfl)
theorem dX0_does_194 : decode cX0_does 194 = .ok (.iload_n 2, 1) := dk_28 (dk_at dksX0_does_8 5 rfl rfl)
theorem dX0_does_195 : decode cX0_does 195 = .ok (.invokevirtual 385, 3) := dk_182 1 129 (dk_at dksX0_does_8 6 rfl rfl)
theorem dX0_does_198 : decode cX0_does 198 = .ok (.goto 75, 3) := dk_167 0 75 (dk_at dksX0_does_8 9 rfl rfl)
theorem dX0_does_201 : decode cX0_does 201 = .ok (.aload_n 0, 1) := dk_42 (dk_at dksX0_does_8 12 rfl rfl)
theorem dX0_does_202 : decode cX0_does 202 = .ok (.aload_n 1, 1) := dk_43 (dk_at dksX0_does_8 13 rfl rfl)
theorem dX0_does_203 : decode cX0_does 203 = .ok (.invokevirtual 388, 3) := dk_182 1 132 (dk_at dksX0_does_8 14 rfl rfl)
theorem dX0_does_206 : decode cX0_does 206 = .ok (.ifCond .ne 6, 3) := dk_154 0 6 (dk_at dksX0_does_8 17 rfl rfl)
theorem dX0_does_209 : decode cX0_does 209 = .ok (.goto 64, 3) := dk_167 0 64 (dk_at dksX0_does_8 20 rfl rfl)
theorem dX0_does_212 : decode cX0_does 212 = .ok (.aload_n 0, 1) := dk_42 (dk_at dksX0_does_8 23 rfl rfl)
theorem dX0_does_213 : decode cX0_does 213 = .ok (.dup, 1) := dk_89 (dk_at dksX0_does_9 0 rfl rfl)
theorem dX0_does_214 : decode cX0_does 214 = .ok (.getfield 340, 3) := dk_180 1 84 (dk_at dksX0_does_9 1 rfl rfl)
theorem dX0_does_217 : decode cX0_does 217 = .ok (.aload_n 1, 1) := dk_43 (dk_at dksX0_does_9 4 rfl rfl)
theorem dX0_does_218 : decode cX0_does 218 = .ok (.getfield 365, 3) := dk_180 1 109 (dk_at dksX0_does_9 5 rfl rfl)
theorem dX0_does_221 : decode cX0_does 221 = .ok (.l2i, 1) := dk_136 (dk_at dksX0_does_9 8 rfl rfl)
theorem dX0_does_222 : decode cX0_does 222 = .ok (.iadd, 1) := dk_96 (dk_at dksX0_does_9 9 rfl rfl)
theorem dX0_does_223 : decode cX0_does 223 = .ok (.putfield 340, 3) := dk_181 1 84 (dk_at dksX0_does_9 10 rfl rfl)
theorem dX0_does_226 : decode cX0_does 226 = .ok (.aload_n 0, 1) := dk_42 (dk_at dksX0_does_9 13 rfl rfl)
theorem dX0_does_227 : decode cX0_does 227 = .ok (.dup, 1) := dk_89 (dk_at dksX0_does_9 14 rfl rfl)
theorem dX0_does_228 : decode cX0_does 228 = .ok (.getfield 349, 3) := dk_180 1 93 (dk_at dksX0_does_9 15 rfl rfl)
theorem dX0_does_231 : decode cX0_does 231 = .ok (.iconst 1, 1) := dk_4 (dk_at dksX0_does_9 18 rfl rfl)
theorem dX0_does_232 : decode cX0_does 232 = .ok (.iadd, 1) := dk_96 (dk_at dksX0_does_9 19 rfl rfl)
theorem dX0_does_233 : decode cX0_does 233 = .ok (.putfield 349, 3) := dk_181 1 93 (dk_at dksX0_does_9 20 rfl rfl)
theorem dX0_does_236 : decode cX0_does 236 = .ok (.iload_n 2, 1) := dk_28 (dk_at dksX0_does_9 23 rfl rfl)
theorem dX0_does_237 : decode cX0_does 237 = .ok (.aload_n 1, 1) := dk_43 (dk_at dksX0_does_10 0 rfl rfl)
theorem dX0_does_238 : decode cX0_does 238 = .ok (.getfield 365, 3) := dk_180 1 109 (dk_at dksX0_does_10 1 rfl rfl)
theorem dX0_does_241 : decode cX0_does 241 = .ok (.l2i, 1) := dk_136 (dk_at dksX0_does_10 4 rfl rfl)
theorem dX0_does_242 : decode cX0_does 242 = .ok (.isub, 1) := dk_100 (dk_at dksX0_does_10 5 rfl rfl)
theorem dX0_does_243 : decode cX0_does 243 = .ok (.ireturn, 1) := dk_172 (dk_at dksX0_does_10 6 rfl rfl)
theorem dX0_does_244 : decode cX0_does 244 = .ok (.aload_n 0, 1) := dk_42 (dk_at dksX0_does_10 7 rfl rfl)
theorem dX0_does_245 : decode cX0_does 245 = .ok (.aload_n 1, 1) := dk_43 (dk_at dksX0_does_10 8 rfl rfl)
theorem dX0_does_246 : decode cX0_does 246 = .ok (.invokevirtual 388, 3) := dk_182 1 132 (dk_at dksX0_does_10 9 rfl rfl)
theorem dX0_does_249 : decode cX0_does 249 = .ok (.ifCond .ne 6, 3) := dk_154 0 6 (dk_at dksX0_does_10 12 rfl rfl)
theorem dX0_does_252 : decode cX0_does 252 = .ok (.goto 21, 3) := dk_167 0 21 (dk_at dksX0_does_10 15 rfl rfl)
theorem dX0_does_255 : decode cX0_does 255 = .ok (.aload_n 0, 1) := dk_42 (dk_at dksX0_does_10 18 rfl rfl)
theorem dX0_does_256 : decode cX0_does 256 = .ok (.dup, 1) := dk_89 (dk_at dksX0_does_10 19 rfl rfl)
theorem dX0_does_257 : decode cX0_does 257 = .ok (.getfield 349, 3) := dk_180 1 93 (dk_at dksX0_does_10 20 rfl rfl)
theorem dX0_does_260 : decode cX0_does 260 = .ok (.iconst 1, 1) := dk_4 (dk_at dksX0_does_10 23 rfl rfl)
theorem dX0_does_261 : decode cX0_does 261 = .ok (.iadd, 1) := dk_96 (dk_at dksX0_does_11 0 rfl rfl)
theorem dX0_does_262 : decode cX0_does 262 = .ok (.putfield 349, 3) := dk_181 1 93 (dk_at dksX0_does_11 1 rfl rfl)
theorem dX0_does_265 : decode cX0_does 265 = .ok (.iload_n 2, 1) := dk_28 (dk_at dksX0_does_11 4 rfl rfl)
theorem dX0_does_266 : decode cX0_does 266 = .ok (.aload_n 1, 1) := dk_43 (dk_at dksX0_does_11 5 rfl rfl)
theorem dX0_does_267 : decode cX0_does 267 = .ok (.getfield 365, 3) := dk_180 1 109 (dk_at dksX0_does_11 6 rfl rfl)
theorem dX0_does_270 : decode cX0_does 270 = .ok (.l2i, 1) := dk_136 (dk_at dksX0_does_11 9 rfl rfl)
theorem dX0_does_271 : decode cX0_does 271 = .ok (.iadd, 1) := dk_96 (dk_at dksX0_does_11 10 rfl rfl)
theorem dX0_does_272 : decode cX0_does 272 = .ok (.ireturn, 1) := dk_172 (dk_at dksX0_does_11 11 rfl rfl)
theorem dX0_does_273 : decode cX0_does 273 = .ok (.aload_n 0, 1) := dk_42 (dk_at dksX0_does_11 12 rfl rfl)
theorem dX0_does_274 : decode cX0_does 274 = .ok (.getfield 343, 3) := dk_180 1 87 (dk_at dksX0_does_11 13 rfl rfl)
theorem dX0_does_277 : decode cX0_does 277 = .ok (.ifCond .ne 13, 3) := dk_154 0 13 (dk_at dksX0_does_11 16 rfl rfl)
theorem dX0_does_280 : decode cX0_does 280 = .ok (.aload_n 0, 1) := dk_42 (dk_at dksX0_does_11 19 rfl rfl)
theorem dX0_does_281 : decode cX0_does 281 = .ok (.dup, 1) := dk_89 (dk_at dksX0_does_11 20 rfl rfl)
theorem dX0_does_282 : decode cX0_does 282 = .ok (.getfield 349, 3) := dk_180 1 93 (dk_at dksX0_does_11 21 rfl rfl)
theorem dX0_does_285 : decode cX0_does 285 = .ok (.iconst 1, 1) := dk_4 (dk_at dksX0_does_12 0 rfl rfl)
theorem dX0_does_286 : decode cX0_does 286 = .ok (.iadd, 1) := dk_96 (dk_at dksX0_does_12 1 rfl rfl)
theorem dX0_does_287 : decode cX0_does 287 = .ok (.putfield 349, 3) := dk_181 1 93 (dk_at dksX0_does_12 2 rfl rfl)
theorem dX0_does_290 : decode cX0_does 290 = .ok (.iload_n 2, 1) := dk_28 (dk_at dksX0_does_12 5 rfl rfl)
theorem dX0_does_291 : decode cX0_does 291 = .ok (.iconst 1, 1) := dk_4 (dk_at dksX0_does_12 6 rfl rfl)
theorem dX0_does_292 : decode cX0_does 292 = .ok (.iadd, 1) := dk_96 (dk_at dksX0_does_12 7 rfl rfl)
theorem dX0_does_293 : decode cX0_does 293 = .ok (.ireturn, 1) := dk_172 (dk_at dksX0_does_12 8 rfl rfl)
abbrev cX0_results : ByteArray := prog_1_method_40_code
def yX0_results : MethodName := ⟨RX0, "results", "(LWheelTables$Card;JII)V"⟩
def dkwX0_results_2 : List UInt8 := [180, 1, 84, 21, 5, 96, 181, 1, 84, 177]
abbrev dktX0_results_2 : List UInt8 := dkwX0_results_2 ++ []
def dkwX0_results_1 : List UInt8 := [180, 1, 106, 5, 46, 32, 80, 42, 32, 9, 148, 156, 0, 7, 4, 167, 0, 4, 3, 181, 1, 96, 42, 89]
abbrev dktX0_results_1 : List UInt8 := dkwX0_results_1 ++ dktX0_results_2
def dkwX0_results_0 : List UInt8 := [32, 184, 1, 115, 20, 1, 117, 148, 158, 0, 11, 42, 4, 21, 4, 182, 1, 139, 177, 42, 180, 0, 73, 43]
abbrev dktX0_results_0 : List UInt8 := dkwX0_results_0 ++ dktX0_results_1
theorem dksX0_results_0 : cX0_results.data.toList.drop 0 = dktX0_results_0 := by decide +kernel
theorem dksX0_results_1 : cX0_results.data.toList.drop 24 = dktX0_results_1 := dk_seg dksX0_results_0 24 rfl rfl
theorem dksX0_results_2 : cX0_results.data.toList.drop 48 = dktX0_results_2 := dk_seg dksX0_results_1 24 rfl rfl
theorem dX0_results_0 : decode cX0_results 0 = .ok (.lload_n 2, 1) := dk_32 (dk_at dksX0_results_0 0 rfl rfl)
theorem dX0_results_1 : decode cX0_results 1 = .ok (.invokestatic 371, 3) := dk_184 1 115 (dk_at dksX0_results_0 1 rfl rfl)
theorem dX0_results_4 : decode cX0_results 4 = .ok (.ldc2_w 373, 3) := dk_20 1 117 (dk_at dksX0_results_0 4 rfl rfl)
theorem dX0_results_7 : decode cX0_results 7 = .ok (.lcmp, 1) := dk_148 (dk_at dksX0_results_0 7 rfl rfl)
theorem dX0_results_8 : decode cX0_results 8 = .ok (.ifCond .le 11, 3) := dk_158 0 11 (dk_at dksX0_results_0 8 rfl rfl)
theorem dX0_results_11 : decode cX0_results 11 = .ok (.aload_n 0, 1) := dk_42 (dk_at dksX0_results_0 11 rfl rfl)
theorem dX0_results_12 : decode cX0_results 12 = .ok (.iconst 1, 1) := dk_4 (dk_at dksX0_results_0 12 rfl rfl)
theorem dX0_results_13 : decode cX0_results 13 = .ok (.iload 4, 2) := dk_21 4 (dk_at dksX0_results_0 13 rfl rfl)
theorem dX0_results_15 : decode cX0_results 15 = .ok (.invokevirtual 395, 3) := dk_182 1 139 (dk_at dksX0_results_0 15 rfl rfl)
theorem dX0_results_18 : decode cX0_results 18 = .ok (.return_, 1) := dk_177 (dk_at dksX0_results_0 18 rfl rfl)
theorem dX0_results_19 : decode cX0_results 19 = .ok (.aload_n 0, 1) := dk_42 (dk_at dksX0_results_0 19 rfl rfl)
theorem dX0_results_20 : decode cX0_results 20 = .ok (.getfield 73, 3) := dk_180 0 73 (dk_at dksX0_results_0 20 rfl rfl)
theorem dX0_results_23 : decode cX0_results 23 = .ok (.aload_n 1, 1) := dk_43 (dk_at dksX0_results_0 23 rfl rfl)
theorem dX0_results_24 : decode cX0_results 24 = .ok (.getfield 362, 3) := dk_180 1 106 (dk_at dksX0_results_1 0 rfl rfl)
theorem dX0_results_27 : decode cX0_results 27 = .ok (.iconst 2, 1) := dk_5 (dk_at dksX0_results_1 3 rfl rfl)
theorem dX0_results_28 : decode cX0_results 28 = .ok (.iaload, 1) := dk_46 (dk_at dksX0_results_1 4 rfl rfl)
theorem dX0_results_29 : decode cX0_results 29 = .ok (.lload_n 2, 1) := dk_32 (dk_at dksX0_results_1 5 rfl rfl)
theorem dX0_results_30 : decode cX0_results 30 = .ok (.lastore, 1) := dk_80 (dk_at dksX0_results_1 6 rfl rfl)
theorem dX0_results_31 : decode cX0_results 31 = .ok (.aload_n 0, 1) := dk_42 (dk_at dksX0_results_1 7 rfl rfl)
theorem dX0_results_32 : decode cX0_results 32 = .ok (.lload_n 2, 1) := dk_32 (dk_at dksX0_results_1 8 rfl rfl)
theorem dX0_results_33 : decode cX0_results 33 = .ok (.lconst 0, 1) := dk_9 (dk_at dksX0_results_1 9 rfl rfl)
theorem dX0_results_34 : decode cX0_results 34 = .ok (.lcmp, 1) := dk_148 (dk_at dksX0_results_1 10 rfl rfl)
theorem dX0_results_35 : decode cX0_results 35 = .ok (.ifCond .ge 7, 3) := dk_156 0 7 (dk_at dksX0_results_1 11 rfl rfl)
theorem dX0_results_38 : decode cX0_results 38 = .ok (.iconst 1, 1) := dk_4 (dk_at dksX0_results_1 14 rfl rfl)
theorem dX0_results_39 : decode cX0_results 39 = .ok (.goto 4, 3) := dk_167 0 4 (dk_at dksX0_results_1 15 rfl rfl)
theorem dX0_results_42 : decode cX0_results 42 = .ok (.iconst 0, 1) := dk_3 (dk_at dksX0_results_1 18 rfl rfl)
theorem dX0_results_43 : decode cX0_results 43 = .ok (.putfield 352, 3) := dk_181 1 96 (dk_at dksX0_results_1 19 rfl rfl)
theorem dX0_results_46 : decode cX0_results 46 = .ok (.aload_n 0, 1) := dk_42 (dk_at dksX0_results_1 22 rfl rfl)
theorem dX0_results_47 : decode cX0_results 47 = .ok (.dup, 1) := dk_89 (dk_at dksX0_results_1 23 rfl rfl)
theorem dX0_results_48 : decode cX0_results 48 = .ok (.getfield 340, 3) := dk_180 1 84 (dk_at dksX0_results_2 0 rfl rfl)
theorem dX0_results_51 : decode cX0_results 51 = .ok (.iload 5, 2) := dk_21 5 (dk_at dksX0_results_2 3 rfl rfl)
theorem dX0_results_53 : decode cX0_results 53 = .ok (.iadd, 1) := dk_96 (dk_at dksX0_results_2 5 rfl rfl)
theorem dX0_results_54 : decode cX0_results 54 = .ok (.putfield 340, 3) := dk_181 1 84 (dk_at dksX0_results_2 6 rfl rfl)
theorem dX0_results_57 : decode cX0_results 57 = .ok (.return_, 1) := dk_177 (dk_at dksX0_results_2 9 rfl rfl)
abbrev cX0_alarms : ByteArray := prog_1_method_39_code
def yX0_alarms : MethodName := ⟨RX0, "alarms", "(II)V"⟩
def dkwX0_alarms_0 : List UInt8 := [42, 27, 181, 1, 87, 42, 28, 181, 1, 90, 177]
abbrev dktX0_alarms_0 : List UInt8 := dkwX0_alarms_0 ++ []
theorem dksX0_alarms_0 : cX0_alarms.data.toList.drop 0 = dktX0_alarms_0 := by decide +kernel
theorem dX0_alarms_0 : decode cX0_alarms 0 = .ok (.aload_n 0, 1) := dk_42 (dk_at dksX0_alarms_0 0 rfl rfl)
theorem dX0_alarms_1 : decode cX0_alarms 1 = .ok (.iload_n 1, 1) := dk_27 (dk_at dksX0_alarms_0 1 rfl rfl)
theorem dX0_alarms_2 : decode cX0_alarms 2 = .ok (.putfield 343, 3) := dk_181 1 87 (dk_at dksX0_alarms_0 2 rfl rfl)
theorem dX0_alarms_5 : decode cX0_alarms 5 = .ok (.aload_n 0, 1) := dk_42 (dk_at dksX0_alarms_0 5 rfl rfl)
theorem dX0_alarms_6 : decode cX0_alarms 6 = .ok (.iload_n 2, 1) := dk_28 (dk_at dksX0_alarms_0 6 rfl rfl)
theorem dX0_alarms_7 : decode cX0_alarms 7 = .ok (.putfield 346, 3) := dk_181 1 90 (dk_at dksX0_alarms_0 7 rfl rfl)
theorem dX0_alarms_10 : decode cX0_alarms 10 = .ok (.return_, 1) := dk_177 (dk_at dksX0_alarms_0 10 rfl rfl)
abbrev cX0_least : ByteArray := prog_1_method_46_code
def yX0_least : MethodName := ⟨RX0, "least", "(J)I"⟩
def dkwX0_least_12 : List UInt8 := [180, 0, 87, 3, 50, 3, 46, 172]
abbrev dktX0_least_12 : List UInt8 := dkwX0_least_12 ++ []
def dkwX0_least_11 : List UInt8 := [16, 10, 100, 79, 21, 8, 153, 0, 7, 3, 167, 0, 4, 4, 54, 5, 132, 6, 1, 167, 255, 159, 42]
abbrev dktX0_least_11 : List UInt8 := dkwX0_least_11 ++ dktX0_least_12
def dkwX0_least_10 : List UInt8 := [167, 0, 4, 3, 54, 8, 42, 180, 0, 82, 21, 6, 21, 8, 153, 0, 8, 21, 7, 167, 0, 8, 21, 7]
abbrev dktX0_least_10 : List UInt8 := dkwX0_least_10 ++ dktX0_least_11
def dkwX0_least_9 : List UInt8 := [21, 6, 4, 96, 50, 3, 46, 96, 42, 180, 0, 87, 21, 6, 50, 21, 5, 46, 160, 0, 7, 4]
abbrev dktX0_least_9 : List UInt8 := dkwX0_least_9 ++ dktX0_least_10
def dkwX0_least_8 : List UInt8 := [180, 0, 79, 21, 6, 46, 21, 5, 96, 54, 7, 21, 7, 16, 10, 162, 0, 34, 21, 7, 42, 180, 0, 87]
abbrev dktX0_least_8 : List UInt8 := dkwX0_least_8 ++ dktX0_least_9
def dkwX0_least_7 : List UInt8 := [167, 255, 159, 132, 5, 255, 167, 255, 145, 3, 54, 5, 3, 54, 6, 21, 6, 16, 13, 162, 0, 96, 42]
abbrev dktX0_least_7 : List UInt8 := dkwX0_least_7 ++ dktX0_least_8
def dkwX0_least_6 : List UInt8 := [46, 96, 54, 9, 42, 180, 0, 87, 21, 5, 50, 21, 6, 21, 8, 21, 9, 184, 1, 142, 79, 132, 6, 1]
abbrev dktX0_least_6 : List UInt8 := dkwX0_least_6 ++ dktX0_least_7
def dkwX0_least_5 : List UInt8 := [154, 0, 9, 17, 3, 232, 167, 0, 20, 16, 10, 21, 7, 100, 42, 180, 0, 87, 21, 5, 4, 96, 50, 4]
abbrev dktX0_least_5 : List UInt8 := dkwX0_least_5 ++ dktX0_least_6
def dkwX0_least_4 : List UInt8 := [17, 3, 232, 167, 0, 17, 21, 7, 42, 180, 0, 87, 21, 5, 4, 96, 50, 3, 46, 96, 54, 8, 21, 7]
abbrev dktX0_least_4 : List UInt8 := dkwX0_least_4 ++ dktX0_least_5
def dkwX0_least_3 : List UInt8 := [5, 162, 0, 97, 42, 180, 0, 79, 21, 5, 46, 21, 6, 96, 54, 7, 21, 7, 16, 10, 160, 0, 9]
abbrev dktX0_least_3 : List UInt8 := dkwX0_least_3 ++ dktX0_least_4
def dkwX0_least_2 : List UInt8 := [180, 0, 87, 16, 13, 50, 4, 16, 100, 79, 16, 12, 54, 5, 21, 5, 155, 0, 112, 3, 54, 6, 21, 6]
abbrev dktX0_least_2 : List UInt8 := dkwX0_least_2 ++ dktX0_least_3
def dkwX0_least_1 : List UInt8 := [79, 33, 20, 1, 59, 109, 66, 132, 5, 1, 167, 255, 227, 42, 180, 0, 87, 16, 13, 50, 3, 3, 79, 42]
abbrev dktX0_least_1 : List UInt8 := dkwX0_least_1 ++ dktX0_least_2
def dkwX0_least_0 : List UInt8 := [31, 66, 3, 54, 5, 21, 5, 16, 13, 162, 0, 28, 42, 180, 0, 79, 21, 5, 33, 20, 1, 59, 113, 136]
abbrev dktX0_least_0 : List UInt8 := dkwX0_least_0 ++ dktX0_least_1
theorem dksX0_least_0 : cX0_least.data.toList.drop 0 = dktX0_least_0 := by decide +kernel
theorem dksX0_least_1 : cX0_least.data.toList.drop 24 = dktX0_least_1 := dk_seg dksX0_least_0 24 rfl rfl
theorem dksX0_least_2 : cX0_least.data.toList.drop 48 = dktX0_least_2 := dk_seg dksX0_least_1 24 rfl rfl
theorem dksX0_least_3 : cX0_least.data.toList.drop 72 = dktX0_least_3 := dk_seg dksX0_least_2 24 rfl rfl
theorem dksX0_least_4 : cX0_least.data.toList.drop 95 = dktX0_least_4 := dk_seg dksX0_least_3 23 rfl rfl
theorem dksX0_least_5 : cX0_least.data.toList.drop 119 = dktX0_least_5 := dk_seg dksX0_least_4 24 rfl rfl
theorem dksX0_least_6 : cX0_least.data.toList.drop 143 = dktX0_least_6 := dk_seg dksX0_least_5 24 rfl rfl
theorem dksX0_least_7 : cX0_least.data.toList.drop 167 = dktX0_least_7 := dk_seg dksX0_least_6 24 rfl rfl
theorem dksX0_least_8 : cX0_least.data.toList.drop 190 = dktX0_least_8 := dk_seg dksX0_least_7 23 rfl rfl
theorem dksX0_least_9 : cX0_least.data.toList.drop 214 = dktX0_least_9 := dk_seg dksX0_least_8 24 rfl rfl
theorem dksX0_least_10 : cX0_least.data.toList.drop 236 = dktX0_least_10 := dk_seg dksX0_least_9 22 rfl rfl
theorem dksX0_least_11 : cX0_least.data.toList.drop 260 = dktX0_least_11 := dk_seg dksX0_least_10 24 rfl rfl
theorem dksX0_least_12 : cX0_least.data.toList.drop 283 = dktX0_least_12 := dk_seg dksX0_least_11 23 rfl rfl
theorem dX0_least_0 : decode cX0_least 0 = .ok (.lload_n 1, 1) := dk_31 (dk_at dksX0_least_0 0 rfl rfl)
theorem dX0_least_1 : decode cX0_least 1 = .ok (.lstore_n 3, 1) := dk_66 (dk_at dksX0_least_0 1 rfl rfl)
theorem dX0_least_2 : decode cX0_least 2 = .ok (.iconst 0, 1) := dk_3 (dk_at dksX0_least_0 2 rfl rfl)
theorem dX0_least_3 : decode cX0_least 3 = .ok (.istore 5, 2) := dk_54 5 (dk_at dksX0_least_0 3 rfl rfl)
theorem dX0_least_5 : decode cX0_least 5 = .ok (.iload 5, 2) := dk_21 5 (dk_at dksX0_least_0 5 rfl rfl)
theorem dX0_least_7 : decode cX0_least 7 = .ok (.bipush 13, 2) := dk_16 13 (dk_at dksX0_least_0 7 rfl rfl)
theorem dX0_least_9 : decode cX0_least 9 = .ok (.if_icmp .ge 28, 3) := dk_162 0 28 (dk_at dksX0_least_0 9 rfl rfl)
theorem dX0_least_12 : decode cX0_least 12 = .ok (.aload_n 0, 1) := dk_42 (dk_at dksX0_least_0 12 rfl rfl)
theorem dX0_least_13 : decode cX0_least 13 = .ok (.getfield 79, 3) := dk_180 0 79 (dk_at dksX0_least_0 13 rfl rfl)
theorem dX0_least_16 : decode cX0_least 16 = .ok (.iload 5, 2) := dk_21 5 (dk_at dksX0_least_0 16 rfl rfl)
theorem dX0_least_18 : decode cX0_least 18 = .ok (.lload_n 3, 1) := dk_33 (dk_at dksX0_least_0 18 rfl rfl)
theorem dX0_least_19 : decode cX0_least 19 = .ok (.ldc2_w 315, 3) := dk_20 1 59 (dk_at dksX0_least_0 19 rfl rfl)
theorem dX0_least_22 : decode cX0_least 22 = .ok (.lrem, 1) := dk_113 (dk_at dksX0_least_0 22 rfl rfl)
theorem dX0_least_23 : decode cX0_least 23 = .ok (.l2i, 1) := dk_136 (dk_at dksX0_least_0 23 rfl rfl)
theorem dX0_least_24 : decode cX0_least 24 = .ok (.iastore, 1) := dk_79 (dk_at dksX0_least_1 0 rfl rfl)
theorem dX0_least_25 : decode cX0_least 25 = .ok (.lload_n 3, 1) := dk_33 (dk_at dksX0_least_1 1 rfl rfl)
theorem dX0_least_26 : decode cX0_least 26 = .ok (.ldc2_w 315, 3) := dk_20 1 59 (dk_at dksX0_least_1 2 rfl rfl)
theorem dX0_least_29 : decode cX0_least 29 = .ok (.ldiv, 1) := dk_109 (dk_at dksX0_least_1 5 rfl rfl)
theorem dX0_least_30 : decode cX0_least 30 = .ok (.lstore_n 3, 1) := dk_66 (dk_at dksX0_least_1 6 rfl rfl)
theorem dX0_least_31 : decode cX0_least 31 = .ok (.iinc 5 1, 3) := dk_132 5 1 (dk_at dksX0_least_1 7 rfl rfl)
theorem dX0_least_34 : decode cX0_least 34 = .ok (.goto (-29), 3) := dk_167 255 227 (dk_at dksX0_least_1 10 rfl rfl)
theorem dX0_least_37 : decode cX0_least 37 = .ok (.aload_n 0, 1) := dk_42 (dk_at dksX0_least_1 13 rfl rfl)
theorem dX0_least_38 : decode cX0_least 38 = .ok (.getfield 87, 3) := dk_180 0 87 (dk_at dksX0_least_1 14 rfl rfl)
theorem dX0_least_41 : decode cX0_least 41 = .ok (.bipush 13, 2) := dk_16 13 (dk_at dksX0_least_1 17 rfl rfl)
theorem dX0_least_43 : decode cX0_least 43 = .ok (.aaload, 1) := dk_50 (dk_at dksX0_least_1 19 rfl rfl)
theorem dX0_least_44 : decode cX0_least 44 = .ok (.iconst 0, 1) := dk_3 (dk_at dksX0_least_1 20 rfl rfl)
theorem dX0_least_45 : decode cX0_least 45 = .ok (.iconst 0, 1) := dk_3 (dk_at dksX0_least_1 21 rfl rfl)
theorem dX0_least_46 : decode cX0_least 46 = .ok (.iastore, 1) := dk_79 (dk_at dksX0_least_1 22 rfl rfl)
theorem dX0_least_47 : decode cX0_least 47 = .ok (.aload_n 0, 1) := dk_42 (dk_at dksX0_least_1 23 rfl rfl)
theorem dX0_least_48 : decode cX0_least 48 = .ok (.getfield 87, 3) := dk_180 0 87 (dk_at dksX0_least_2 0 rfl rfl)
theorem dX0_least_51 : decode cX0_least 51 = .ok (.bipush 13, 2) := dk_16 13 (dk_at dksX0_least_2 3 rfl rfl)
theorem dX0_least_53 : decode cX0_least 53 = .ok (.aaload, 1) := dk_50 (dk_at dksX0_least_2 5 rfl rfl)
theorem dX0_least_54 : decode cX0_least 54 = .ok (.iconst 1, 1) := dk_4 (dk_at dksX0_least_2 6 rfl rfl)
theorem dX0_least_55 : decode cX0_least 55 = .ok (.bipush 100, 2) := dk_16 100 (dk_at dksX0_least_2 7 rfl rfl)
theorem dX0_least_57 : decode cX0_least 57 = .ok (.iastore, 1) := dk_79 (dk_at dksX0_least_2 9 rfl rfl)
theorem dX0_least_58 : decode cX0_least 58 = .ok (.bipush 12, 2) := dk_16 12 (dk_at dksX0_least_2 10 rfl rfl)
theorem dX0_least_60 : decode cX0_least 60 = .ok (.istore 5, 2) := dk_54 5 (dk_at dksX0_least_2 12 rfl rfl)
theorem dX0_least_62 : decode cX0_least 62 = .ok (.iload 5, 2) := dk_21 5 (dk_at dksX0_least_2 14 rfl rfl)
theorem dX0_least_64 : decode cX0_least 64 = .ok (.ifCond .lt 112, 3) := dk_155 0 112 (dk_at dksX0_least_2 16 rfl rfl)
theorem dX0_least_67 : decode cX0_least 67 = .ok (.iconst 0, 1) := dk_3 (dk_at dksX0_least_2 19 rfl rfl)
theorem dX0_least_68 : decode cX0_least 68 = .ok (.istore 6, 2) := dk_54 6 (dk_at dksX0_least_2 20 rfl rfl)
theorem dX0_least_70 : decode cX0_least 70 = .ok (.iload 6, 2) := dk_21 6 (dk_at dksX0_least_2 22 rfl rfl)
theorem dX0_least_72 : decode cX0_least 72 = .ok (.iconst 2, 1) := dk_5 (dk_at dksX0_least_3 0 rfl rfl)
theorem dX0_least_73 : decode cX0_least 73 = .ok (.if_icmp .ge 97, 3) := dk_162 0 97 (dk_at dksX0_least_3 1 rfl rfl)
theorem dX0_least_76 : decode cX0_least 76 = .ok (.aload_n 0, 1) := dk_42 (dk_at dksX0_least_3 4 rfl rfl)
theorem dX0_least_77 : decode cX0_least 77 = .ok (.getfield 79, 3) := dk_180 0 79 (dk_at dksX0_least_3 5 rfl rfl)
theorem dX0_least_80 : decode cX0_least 80 = .ok (.iload 5, 2) := dk_21 5 (dk_at dksX0_least_3 8 rfl rfl)
theorem dX0_least_82 : decode cX0_least 82 = .ok (.iaload, 1) := dk_46 (dk_at dksX0_least_3 10 rfl rfl)
theorem dX0_least_83 : decode cX0_least 83 = .ok (.iload 6, 2) := dk_21 6 (dk_at dksX0_least_3 11 rfl rfl)
theorem dX0_least_85 : decode cX0_least 85 = .ok (.iadd, 1) := dk_96 (dk_at dksX0_least_3 13 rfl rfl)
theorem dX0_least_86 : decode cX0_least 86 = .ok (.istore 7, 2) := dk_54 7 (dk_at dksX0_least_3 14 rfl rfl)
theorem dX0_least_88 : decode cX0_least 88 = .ok (.iload 7, 2) := dk_21 7 (dk_at dksX0_least_3 16 rfl rfl)
theorem dX0_least_90 : decode cX0_least 90 = .ok (.bipush 10, 2) := dk_16 10 (dk_at dksX0_least_3 18 rfl rfl)
theorem dX0_least_92 : decode cX0_least 92 = .ok (.if_icmp .ne 9, 3) := dk_160 0 9 (dk_at dksX0_least_3 20 rfl rfl)
theorem dX0_least_95 : decode cX0_least 95 = .ok (.sipush 1000, 3) := dk_17 3 232 (dk_at dksX0_least_4 0 rfl rfl)
theorem dX0_least_98 : decode cX0_least 98 = .ok (.goto 17, 3) := dk_167 0 17 (dk_at dksX0_least_4 3 rfl rfl)
theorem dX0_least_101 : decode cX0_least 101 = .ok (.iload 7, 2) := dk_21 7 (dk_at dksX0_least_4 6 rfl rfl)
theorem dX0_least_103 : decode cX0_least 103 = .ok (.aload_n 0, 1) := dk_42 (dk_at dksX0_least_4 8 rfl rfl)
theorem dX0_least_104 : decode cX0_least 104 = .ok (.getfield 87, 3) := dk_180 0 87 (dk_at dksX0_least_4 9 rfl rfl)
theorem dX0_least_107 : decode cX0_least 107 = .ok (.iload 5, 2) := dk_21 5 (dk_at dksX0_least_4 12 rfl rfl)
theorem dX0_least_109 : decode cX0_least 109 = .ok (.iconst 1, 1) := dk_4 (dk_at dksX0_least_4 14 rfl rfl)
theorem dX0_least_110 : decode cX0_least 110 = .ok (.iadd, 1) := dk_96 (dk_at dksX0_least_4 15 rfl rfl)
theorem dX0_least_111 : decode cX0_least 111 = .ok (.aaload, 1) := dk_50 (dk_at dksX0_least_4 16 rfl rfl)
theorem dX0_least_112 : decode cX0_least 112 = .ok (.iconst 0, 1) := dk_3 (dk_at dksX0_least_4 17 rfl rfl)
theorem dX0_least_113 : decode cX0_least 113 = .ok (.iaload, 1) := dk_46 (dk_at dksX0_least_4 18 rfl rfl)
theorem dX0_least_114 : decode cX0_least 114 = .ok (.iadd, 1) := dk_96 (dk_at dksX0_least_4 19 rfl rfl)
theorem dX0_least_115 : decode cX0_least 115 = .ok (.istore 8, 2) := dk_54 8 (dk_at dksX0_least_4 20 rfl rfl)
theorem dX0_least_117 : decode cX0_least 117 = .ok (.iload 7, 2) := dk_21 7 (dk_at dksX0_least_4 22 rfl rfl)
theorem dX0_least_119 : decode cX0_least 119 = .ok (.ifCond .ne 9, 3) := dk_154 0 9 (dk_at dksX0_least_5 0 rfl rfl)
theorem dX0_least_122 : decode cX0_least 122 = .ok (.sipush 1000, 3) := dk_17 3 232 (dk_at dksX0_least_5 3 rfl rfl)
theorem dX0_least_125 : decode cX0_least 125 = .ok (.goto 20, 3) := dk_167 0 20 (dk_at dksX0_least_5 6 rfl rfl)
theorem dX0_least_128 : decode cX0_least 128 = .ok (.bipush 10, 2) := dk_16 10 (dk_at dksX0_least_5 9 rfl rfl)
theorem dX0_least_130 : decode cX0_least 130 = .ok (.iload 7, 2) := dk_21 7 (dk_at dksX0_least_5 11 rfl rfl)
theorem dX0_least_132 : decode cX0_least 132 = .ok (.isub, 1) := dk_100 (dk_at dksX0_least_5 13 rfl rfl)
theorem dX0_least_133 : decode cX0_least 133 = .ok (.aload_n 0, 1) := dk_42 (dk_at dksX0_least_5 14 rfl rfl)
theorem dX0_least_134 : decode cX0_least 134 = .ok (.getfield 87, 3) := dk_180 0 87 (dk_at dksX0_least_5 15 rfl rfl)
theorem dX0_least_137 : decode cX0_least 137 = .ok (.iload 5, 2) := dk_21 5 (dk_at dksX0_least_5 18 rfl rfl)
theorem dX0_least_139 : decode cX0_least 139 = .ok (.iconst 1, 1) := dk_4 (dk_at dksX0_least_5 20 rfl rfl)
theorem dX0_least_140 : decode cX0_least 140 = .ok (.iadd, 1) := dk_96 (dk_at dksX0_least_5 21 rfl rfl)
theorem dX0_least_141 : decode cX0_least 141 = .ok (.aaload, 1) := dk_50 (dk_at dksX0_least_5 22 rfl rfl)
theorem dX0_least_142 : decode cX0_least 142 = .ok (.iconst 1, 1) := dk_4 (dk_at dksX0_least_5 23 rfl rfl)
theorem dX0_least_143 : decode cX0_least 143 = .ok (.iaload, 1) := dk_46 (dk_at dksX0_least_6 0 rfl rfl)
theorem dX0_least_144 : decode cX0_least 144 = .ok (.iadd, 1) := dk_96 (dk_at dksX0_least_6 1 rfl rfl)
theorem dX0_least_145 : decode cX0_least 145 = .ok (.istore 9, 2) := dk_54 9 (dk_at dksX0_least_6 2 rfl rfl)
theorem dX0_least_147 : decode cX0_least 147 = .ok (.aload_n 0, 1) := dk_42 (dk_at dksX0_least_6 4 rfl rfl)
theorem dX0_least_148 : decode cX0_least 148 = .ok (.getfield 87, 3) := dk_180 0 87 (dk_at dksX0_least_6 5 rfl rfl)
theorem dX0_least_151 : decode cX0_least 151 = .ok (.iload 5, 2) := dk_21 5 (dk_at dksX0_least_6 8 rfl rfl)
theorem dX0_least_153 : decode cX0_least 153 = .ok (.aaload, 1) := dk_50 (dk_at dksX0_least_6 10 rfl rfl)
theorem dX0_least_154 : decode cX0_least 154 = .ok (.iload 6, 2) := dk_21 6 (dk_at dksX0_least_6 11 rfl rfl)
theorem dX0_least_156 : decode cX0_least 156 = .ok (.iload 8, 2) := dk_21 8 (dk_at dksX0_least_6 13 rfl rfl)
theorem dX0_least_158 : decode cX0_least 158 = .ok (.iload 9, 2) := dk_21 9 (dk_at dksX0_least_6 15 rfl rfl)
theorem dX0_least_160 : decode cX0_least 160 = .ok (.invokestatic 398, 3) := dk_184 1 142 (dk_at dksX0_least_6 17 rfl rfl)
theorem dX0_least_163 : decode cX0_least 163 = .ok (.iastore, 1) := dk_79 (dk_at dksX0_least_6 20 rfl rfl)
theorem dX0_least_164 : decode cX0_least 164 = .ok (.iinc 6 1, 3) := dk_132 6 1 (dk_at dksX0_least_6 21 rfl rfl)
theorem dX0_least_167 : decode cX0_least 167 = .ok (.goto (-97), 3) := dk_167 255 159 (dk_at dksX0_least_7 0 rfl rfl)
theorem dX0_least_170 : decode cX0_least 170 = .ok (.iinc 5 (-1), 3) := dk_132 5 255 (dk_at dksX0_least_7 3 rfl rfl)
theorem dX0_least_173 : decode cX0_least 173 = .ok (.goto (-111), 3) := dk_167 255 145 (dk_at dksX0_least_7 6 rfl rfl)
theorem dX0_least_176 : decode cX0_least 176 = .ok (.iconst 0, 1) := dk_3 (dk_at dksX0_least_7 9 rfl rfl)
theorem dX0_least_177 : decode cX0_least 177 = .ok (.istore 5, 2) := dk_54 5 (dk_at dksX0_least_7 10 rfl rfl)
theorem dX0_least_179 : decode cX0_least 179 = .ok (.iconst 0, 1) := dk_3 (dk_at dksX0_least_7 12 rfl rfl)
theorem dX0_least_180 : decode cX0_least 180 = .ok (.istore 6, 2) := dk_54 6 (dk_at dksX0_least_7 13 rfl rfl)
theorem dX0_least_182 : decode cX0_least 182 = .ok (.iload 6, 2) := dk_21 6 (dk_at dksX0_least_7 15 rfl rfl)
theorem dX0_least_184 : decode cX0_least 184 = .ok (.bipush 13, 2) := dk_16 13 (dk_at dksX0_least_7 17 rfl rfl)
theorem dX0_least_186 : decode cX0_least 186 = .ok (.if_icmp .ge 96, 3) := dk_162 0 96 (dk_at dksX0_least_7 19 rfl rfl)
theorem dX0_least_189 : decode cX0_least 189 = .ok (.aload_n 0, 1) := dk_42 (dk_at dksX0_least_7 22 rfl rfl)
theorem dX0_least_190 : decode cX0_least 190 = .ok (.getfield 79, 3) := dk_180 0 79 (dk_at dksX0_least_8 0 rfl rfl)
theorem dX0_least_193 : decode cX0_least 193 = .ok (.iload 6, 2) := dk_21 6 (dk_at dksX0_least_8 3 rfl rfl)
theorem dX0_least_195 : decode cX0_least 195 = .ok (.iaload, 1) := dk_46 (dk_at dksX0_least_8 5 rfl rfl)
theorem dX0_least_196 : decode cX0_least 196 = .ok (.iload 5, 2) := dk_21 5 (dk_at dksX0_least_8 6 rfl rfl)
theorem dX0_least_198 : decode cX0_least 198 = .ok (.iadd, 1) := dk_96 (dk_at dksX0_least_8 8 rfl rfl)
theorem dX0_least_199 : decode cX0_least 199 = .ok (.istore 7, 2) := dk_54 7 (dk_at dksX0_least_8 9 rfl rfl)
theorem dX0_least_201 : decode cX0_least 201 = .ok (.iload 7, 2) := dk_21 7 (dk_at dksX0_least_8 11 rfl rfl)
theorem dX0_least_203 : decode cX0_least 203 = .ok (.bipush 10, 2) := dk_16 10 (dk_at dksX0_least_8 13 rfl rfl)
theorem dX0_least_205 : decode cX0_least 205 = .ok (.if_icmp .ge 34, 3) := dk_162 0 34 (dk_at dksX0_least_8 15 rfl rfl)
theorem dX0_least_208 : decode cX0_least 208 = .ok (.iload 7, 2) := dk_21 7 (dk_at dksX0_least_8 18 rfl rfl)
theorem dX0_least_210 : decode cX0_least 210 = .ok (.aload_n 0, 1) := dk_42 (dk_at dksX0_least_8 20 rfl rfl)
theorem dX0_least_211 : decode cX0_least 211 = .ok (.getfield 87, 3) := dk_180 0 87 (dk_at dksX0_least_8 21 rfl rfl)
theorem dX0_least_214 : decode cX0_least 214 = .ok (.iload 6, 2) := dk_21 6 (dk_at dksX0_least_9 0 rfl rfl)
theorem dX0_least_216 : decode cX0_least 216 = .ok (.iconst 1, 1) := dk_4 (dk_at dksX0_least_9 2 rfl rfl)
theorem dX0_least_217 : decode cX0_least 217 = .ok (.iadd, 1) := dk_96 (dk_at dksX0_least_9 3 rfl rfl)
theorem dX0_least_218 : decode cX0_least 218 = .ok (.aaload, 1) := dk_50 (dk_at dksX0_least_9 4 rfl rfl)
theorem dX0_least_219 : decode cX0_least 219 = .ok (.iconst 0, 1) := dk_3 (dk_at dksX0_least_9 5 rfl rfl)
theorem dX0_least_220 : decode cX0_least 220 = .ok (.iaload, 1) := dk_46 (dk_at dksX0_least_9 6 rfl rfl)
theorem dX0_least_221 : decode cX0_least 221 = .ok (.iadd, 1) := dk_96 (dk_at dksX0_least_9 7 rfl rfl)
theorem dX0_least_222 : decode cX0_least 222 = .ok (.aload_n 0, 1) := dk_42 (dk_at dksX0_least_9 8 rfl rfl)
theorem dX0_least_223 : decode cX0_least 223 = .ok (.getfield 87, 3) := dk_180 0 87 (dk_at dksX0_least_9 9 rfl rfl)
theorem dX0_least_226 : decode cX0_least 226 = .ok (.iload 6, 2) := dk_21 6 (dk_at dksX0_least_9 12 rfl rfl)
theorem dX0_least_228 : decode cX0_least 228 = .ok (.aaload, 1) := dk_50 (dk_at dksX0_least_9 14 rfl rfl)
theorem dX0_least_229 : decode cX0_least 229 = .ok (.iload 5, 2) := dk_21 5 (dk_at dksX0_least_9 15 rfl rfl)
theorem dX0_least_231 : decode cX0_least 231 = .ok (.iaload, 1) := dk_46 (dk_at dksX0_least_9 17 rfl rfl)
theorem dX0_least_232 : decode cX0_least 232 = .ok (.if_icmp .ne 7, 3) := dk_160 0 7 (dk_at dksX0_least_9 18 rfl rfl)
theorem dX0_least_235 : decode cX0_least 235 = .ok (.iconst 1, 1) := dk_4 (dk_at dksX0_least_9 21 rfl rfl)
theorem dX0_least_236 : decode cX0_least 236 = .ok (.goto 4, 3) := dk_167 0 4 (dk_at dksX0_least_10 0 rfl rfl)
theorem dX0_least_239 : decode cX0_least 239 = .ok (.iconst 0, 1) := dk_3 (dk_at dksX0_least_10 3 rfl rfl)
theorem dX0_least_240 : decode cX0_least 240 = .ok (.istore 8, 2) := dk_54 8 (dk_at dksX0_least_10 4 rfl rfl)
theorem dX0_least_242 : decode cX0_least 242 = .ok (.aload_n 0, 1) := dk_42 (dk_at dksX0_least_10 6 rfl rfl)
theorem dX0_least_243 : decode cX0_least 243 = .ok (.getfield 82, 3) := dk_180 0 82 (dk_at dksX0_least_10 7 rfl rfl)
theorem dX0_least_246 : decode cX0_least 246 = .ok (.iload 6, 2) := dk_21 6 (dk_at dksX0_least_10 10 rfl rfl)
theorem dX0_least_248 : decode cX0_least 248 = .ok (.iload 8, 2) := dk_21 8 (dk_at dksX0_least_10 12 rfl rfl)
theorem dX0_least_250 : decode cX0_least 250 = .ok (.ifCond .eq 8, 3) := dk_153 0 8 (dk_at dksX0_least_10 14 rfl rfl)
theorem dX0_least_253 : decode cX0_least 253 = .ok (.iload 7, 2) := dk_21 7 (dk_at dksX0_least_10 17 rfl rfl)
theorem dX0_least_255 : decode cX0_least 255 = .ok (.goto 8, 3) := dk_167 0 8 (dk_at dksX0_least_10 19 rfl rfl)
theorem dX0_least_258 : decode cX0_least 258 = .ok (.iload 7, 2) := dk_21 7 (dk_at dksX0_least_10 22 rfl rfl)
theorem dX0_least_260 : decode cX0_least 260 = .ok (.bipush 10, 2) := dk_16 10 (dk_at dksX0_least_11 0 rfl rfl)
theorem dX0_least_262 : decode cX0_least 262 = .ok (.isub, 1) := dk_100 (dk_at dksX0_least_11 2 rfl rfl)
theorem dX0_least_263 : decode cX0_least 263 = .ok (.iastore, 1) := dk_79 (dk_at dksX0_least_11 3 rfl rfl)
theorem dX0_least_264 : decode cX0_least 264 = .ok (.iload 8, 2) := dk_21 8 (dk_at dksX0_least_11 4 rfl rfl)
theorem dX0_least_266 : decode cX0_least 266 = .ok (.ifCond .eq 7, 3) := dk_153 0 7 (dk_at dksX0_least_11 6 rfl rfl)
theorem dX0_least_269 : decode cX0_least 269 = .ok (.iconst 0, 1) := dk_3 (dk_at dksX0_least_11 9 rfl rfl)
theorem dX0_least_270 : decode cX0_least 270 = .ok (.goto 4, 3) := dk_167 0 4 (dk_at dksX0_least_11 10 rfl rfl)
theorem dX0_least_273 : decode cX0_least 273 = .ok (.iconst 1, 1) := dk_4 (dk_at dksX0_least_11 13 rfl rfl)
theorem dX0_least_274 : decode cX0_least 274 = .ok (.istore 5, 2) := dk_54 5 (dk_at dksX0_least_11 14 rfl rfl)
theorem dX0_least_276 : decode cX0_least 276 = .ok (.iinc 6 1, 3) := dk_132 6 1 (dk_at dksX0_least_11 16 rfl rfl)
theorem dX0_least_279 : decode cX0_least 279 = .ok (.goto (-97), 3) := dk_167 255 159 (dk_at dksX0_least_11 19 rfl rfl)
theorem dX0_least_282 : decode cX0_least 282 = .ok (.aload_n 0, 1) := dk_42 (dk_at dksX0_least_11 22 rfl rfl)
theorem dX0_least_283 : decode cX0_least 283 = .ok (.getfield 87, 3) := dk_180 0 87 (dk_at dksX0_least_12 0 rfl rfl)
theorem dX0_least_286 : decode cX0_least 286 = .ok (.iconst 0, 1) := dk_3 (dk_at dksX0_least_12 3 rfl rfl)
theorem dX0_least_287 : decode cX0_least 287 = .ok (.aaload, 1) := dk_50 (dk_at dksX0_least_12 4 rfl rfl)
theorem dX0_least_288 : decode cX0_least 288 = .ok (.iconst 0, 1) := dk_3 (dk_at dksX0_least_12 5 rfl rfl)
theorem dX0_least_289 : decode cX0_least 289 = .ok (.iaload, 1) := dk_46 (dk_at dksX0_least_12 6 rfl rfl)
theorem dX0_least_290 : decode cX0_least 290 = .ok (.ireturn, 1) := dk_172 (dk_at dksX0_least_12 7 rfl rfl)
abbrev cX0_divides : ByteArray := prog_1_method_41_code
def yX0_divides : MethodName := ⟨RX0, "divides", "(LWheelTables$Card;JJI)V"⟩
def dkwX0_divides_2 : List UInt8 := [46, 32, 22, 4, 113, 80, 177]
abbrev dktX0_divides_2 : List UInt8 := dkwX0_divides_2 ++ []
def dkwX0_divides_1 : List UInt8 := [42, 32, 22, 4, 109, 184, 1, 115, 182, 1, 121, 96, 182, 1, 111, 42, 180, 0, 73, 43, 180, 1, 106, 6]
abbrev dktX0_divides_1 : List UInt8 := dkwX0_divides_1 ++ dktX0_divides_2
def dkwX0_divides_0 : List UInt8 := [22, 4, 9, 148, 154, 0, 11, 42, 5, 21, 6, 182, 1, 139, 177, 42, 43, 32, 22, 4, 109, 21, 6, 6]
abbrev dktX0_divides_0 : List UInt8 := dkwX0_divides_0 ++ dktX0_divides_1
theorem dksX0_divides_0 : cX0_divides.data.toList.drop 0 = dktX0_divides_0 := by decide +kernel
theorem dksX0_divides_1 : cX0_divides.data.toList.drop 24 = dktX0_divides_1 := dk_seg dksX0_divides_0 24 rfl rfl
theorem dksX0_divides_2 : cX0_divides.data.toList.drop 48 = dktX0_divides_2 := dk_seg dksX0_divides_1 24 rfl rfl
theorem dX0_divides_0 : decode cX0_divides 0 = .ok (.lload 4, 2) := dk_22 4 (dk_at dksX0_divides_0 0 rfl rfl)
theorem dX0_divides_2 : decode cX0_divides 2 = .ok (.lconst 0, 1) := dk_9 (dk_at dksX0_divides_0 2 rfl rfl)
theorem dX0_divides_3 : decode cX0_divides 3 = .ok (.lcmp, 1) := dk_148 (dk_at dksX0_divides_0 3 rfl rfl)
theorem dX0_divides_4 : decode cX0_divides 4 = .ok (.ifCond .ne 11, 3) := dk_154 0 11 (dk_at dksX0_divides_0 4 rfl rfl)
theorem dX0_divides_7 : decode cX0_divides 7 = .ok (.aload_n 0, 1) := dk_42 (dk_at dksX0_divides_0 7 rfl rfl)
theorem dX0_divides_8 : decode cX0_divides 8 = .ok (.iconst 2, 1) := dk_5 (dk_at dksX0_divides_0 8 rfl rfl)
theorem dX0_divides_9 : decode cX0_divides 9 = .ok (.iload 6, 2) := dk_21 6 (dk_at dksX0_divides_0 9 rfl rfl)
theorem dX0_divides_11 : decode cX0_divides 11 = .ok (.invokevirtual 395, 3) := dk_182 1 139 (dk_at dksX0_divides_0 11 rfl rfl)
theorem dX0_divides_14 : decode cX0_divides 14 = .ok (.return_, 1) := dk_177 (dk_at dksX0_divides_0 14 rfl rfl)
theorem dX0_divides_15 : decode cX0_divides 15 = .ok (.aload_n 0, 1) := dk_42 (dk_at dksX0_divides_0 15 rfl rfl)
theorem dX0_divides_16 : decode cX0_divides 16 = .ok (.aload_n 1, 1) := dk_43 (dk_at dksX0_divides_0 16 rfl rfl)
theorem dX0_divides_17 : decode cX0_divides 17 = .ok (.lload_n 2, 1) := dk_32 (dk_at dksX0_divides_0 17 rfl rfl)
theorem dX0_divides_18 : decode cX0_divides 18 = .ok (.lload 4, 2) := dk_22 4 (dk_at dksX0_divides_0 18 rfl rfl)
theorem dX0_divides_20 : decode cX0_divides 20 = .ok (.ldiv, 1) := dk_109 (dk_at dksX0_divides_0 20 rfl rfl)
theorem dX0_divides_21 : decode cX0_divides 21 = .ok (.iload 6, 2) := dk_21 6 (dk_at dksX0_divides_0 21 rfl rfl)
theorem dX0_divides_23 : decode cX0_divides 23 = .ok (.iconst 3, 1) := dk_6 (dk_at dksX0_divides_0 23 rfl rfl)
theorem dX0_divides_24 : decode cX0_divides 24 = .ok (.aload_n 0, 1) := dk_42 (dk_at dksX0_divides_1 0 rfl rfl)
theorem dX0_divides_25 : decode cX0_divides 25 = .ok (.lload_n 2, 1) := dk_32 (dk_at dksX0_divides_1 1 rfl rfl)
theorem dX0_divides_26 : decode cX0_divides 26 = .ok (.lload 4, 2) := dk_22 4 (dk_at dksX0_divides_1 2 rfl rfl)
theorem dX0_divides_28 : decode cX0_divides 28 = .ok (.ldiv, 1) := dk_109 (dk_at dksX0_divides_1 4 rfl rfl)
theorem dX0_divides_29 : decode cX0_divides 29 = .ok (.invokestatic 371, 3) := dk_184 1 115 (dk_at dksX0_divides_1 5 rfl rfl)
theorem dX0_divides_32 : decode cX0_divides 32 = .ok (.invokevirtual 377, 3) := dk_182 1 121 (dk_at dksX0_divides_1 8 rfl rfl)
theorem dX0_divides_35 : decode cX0_divides 35 = .ok (.iadd, 1) := dk_96 (dk_at dksX0_divides_1 11 rfl rfl)
theorem dX0_divides_36 : decode cX0_divides 36 = .ok (.invokevirtual 367, 3) := dk_182 1 111 (dk_at dksX0_divides_1 12 rfl rfl)
theorem dX0_divides_39 : decode cX0_divides 39 = .ok (.aload_n 0, 1) := dk_42 (dk_at dksX0_divides_1 15 rfl rfl)
theorem dX0_divides_40 : decode cX0_divides 40 = .ok (.getfield 73, 3) := dk_180 0 73 (dk_at dksX0_divides_1 16 rfl rfl)
theorem dX0_divides_43 : decode cX0_divides 43 = .ok (.aload_n 1, 1) := dk_43 (dk_at dksX0_divides_1 19 rfl rfl)
theorem dX0_divides_44 : decode cX0_divides 44 = .ok (.getfield 362, 3) := dk_180 1 106 (dk_at dksX0_divides_1 20 rfl rfl)
theorem dX0_divides_47 : decode cX0_divides 47 = .ok (.iconst 3, 1) := dk_6 (dk_at dksX0_divides_1 23 rfl rfl)
theorem dX0_divides_48 : decode cX0_divides 48 = .ok (.iaload, 1) := dk_46 (dk_at dksX0_divides_2 0 rfl rfl)
theorem dX0_divides_49 : decode cX0_divides 49 = .ok (.lload_n 2, 1) := dk_32 (dk_at dksX0_divides_2 1 rfl rfl)
theorem dX0_divides_50 : decode cX0_divides 50 = .ok (.lload 4, 2) := dk_22 4 (dk_at dksX0_divides_2 2 rfl rfl)
theorem dX0_divides_52 : decode cX0_divides 52 = .ok (.lrem, 1) := dk_113 (dk_at dksX0_divides_2 4 rfl rfl)
theorem dX0_divides_53 : decode cX0_divides 53 = .ok (.lastore, 1) := dk_80 (dk_at dksX0_divides_2 5 rfl rfl)
theorem dX0_divides_54 : decode cX0_divides 54 = .ok (.return_, 1) := dk_177 (dk_at dksX0_divides_2 6 rfl rfl)
abbrev cX0_prints : ByteArray := prog_1_method_42_code
def yX0_prints : MethodName := ⟨RX0, "prints", "(JI)V"⟩
def dkwX0_prints_1 : List UInt8 := [31, 80, 42, 89, 180, 1, 81, 4, 96, 181, 1, 81, 42, 89, 180, 1, 84, 4, 96, 181, 1, 84, 177]
abbrev dktX0_prints_1 : List UInt8 := dkwX0_prints_1 ++ []
def dkwX0_prints_0 : List UInt8 := [42, 180, 1, 81, 16, 40, 160, 0, 10, 42, 6, 29, 182, 1, 139, 177, 42, 180, 0, 76, 42, 180, 1, 81]
abbrev dktX0_prints_0 : List UInt8 := dkwX0_prints_0 ++ dktX0_prints_1
theorem dksX0_prints_0 : cX0_prints.data.toList.drop 0 = dktX0_prints_0 := by decide +kernel
theorem dksX0_prints_1 : cX0_prints.data.toList.drop 24 = dktX0_prints_1 := dk_seg dksX0_prints_0 24 rfl rfl
theorem dX0_prints_0 : decode cX0_prints 0 = .ok (.aload_n 0, 1) := dk_42 (dk_at dksX0_prints_0 0 rfl rfl)
theorem dX0_prints_1 : decode cX0_prints 1 = .ok (.getfield 337, 3) := dk_180 1 81 (dk_at dksX0_prints_0 1 rfl rfl)
theorem dX0_prints_4 : decode cX0_prints 4 = .ok (.bipush 40, 2) := dk_16 40 (dk_at dksX0_prints_0 4 rfl rfl)
theorem dX0_prints_6 : decode cX0_prints 6 = .ok (.if_icmp .ne 10, 3) := dk_160 0 10 (dk_at dksX0_prints_0 6 rfl rfl)
theorem dX0_prints_9 : decode cX0_prints 9 = .ok (.aload_n 0, 1) := dk_42 (dk_at dksX0_prints_0 9 rfl rfl)
theorem dX0_prints_10 : decode cX0_prints 10 = .ok (.iconst 3, 1) := dk_6 (dk_at dksX0_prints_0 10 rfl rfl)
theorem dX0_prints_11 : decode cX0_prints 11 = .ok (.iload_n 3, 1) := dk_29 (dk_at dksX0_prints_0 11 rfl rfl)
theorem dX0_prints_12 : decode cX0_prints 12 = .ok (.invokevirtual 395, 3) := dk_182 1 139 (dk_at dksX0_prints_0 12 rfl rfl)
theorem dX0_prints_15 : decode cX0_prints 15 = .ok (.return_, 1) := dk_177 (dk_at dksX0_prints_0 15 rfl rfl)
theorem dX0_prints_16 : decode cX0_prints 16 = .ok (.aload_n 0, 1) := dk_42 (dk_at dksX0_prints_0 16 rfl rfl)
theorem dX0_prints_17 : decode cX0_prints 17 = .ok (.getfield 76, 3) := dk_180 0 76 (dk_at dksX0_prints_0 17 rfl rfl)
theorem dX0_prints_20 : decode cX0_prints 20 = .ok (.aload_n 0, 1) := dk_42 (dk_at dksX0_prints_0 20 rfl rfl)
theorem dX0_prints_21 : decode cX0_prints 21 = .ok (.getfield 337, 3) := dk_180 1 81 (dk_at dksX0_prints_0 21 rfl rfl)
theorem dX0_prints_24 : decode cX0_prints 24 = .ok (.lload_n 1, 1) := dk_31 (dk_at dksX0_prints_1 0 rfl rfl)
theorem dX0_prints_25 : decode cX0_prints 25 = .ok (.lastore, 1) := dk_80 (dk_at dksX0_prints_1 1 rfl rfl)
theorem dX0_prints_26 : decode cX0_prints 26 = .ok (.aload_n 0, 1) := dk_42 (dk_at dksX0_prints_1 2 rfl rfl)
theorem dX0_prints_27 : decode cX0_prints 27 = .ok (.dup, 1) := dk_89 (dk_at dksX0_prints_1 3 rfl rfl)
theorem dX0_prints_28 : decode cX0_prints 28 = .ok (.getfield 337, 3) := dk_180 1 81 (dk_at dksX0_prints_1 4 rfl rfl)
theorem dX0_prints_31 : decode cX0_prints 31 = .ok (.iconst 1, 1) := dk_4 (dk_at dksX0_prints_1 7 rfl rfl)
theorem dX0_prints_32 : decode cX0_prints 32 = .ok (.iadd, 1) := dk_96 (dk_at dksX0_prints_1 8 rfl rfl)
theorem dX0_prints_33 : decode cX0_prints 33 = .ok (.putfield 337, 3) := dk_181 1 81 (dk_at dksX0_prints_1 9 rfl rfl)
theorem dX0_prints_36 : decode cX0_prints 36 = .ok (.aload_n 0, 1) := dk_42 (dk_at dksX0_prints_1 12 rfl rfl)
theorem dX0_prints_37 : decode cX0_prints 37 = .ok (.dup, 1) := dk_89 (dk_at dksX0_prints_1 13 rfl rfl)
theorem dX0_prints_38 : decode cX0_prints 38 = .ok (.getfield 340, 3) := dk_180 1 84 (dk_at dksX0_prints_1 14 rfl rfl)
theorem dX0_prints_41 : decode cX0_prints 41 = .ok (.iconst 1, 1) := dk_4 (dk_at dksX0_prints_1 17 rfl rfl)
theorem dX0_prints_42 : decode cX0_prints 42 = .ok (.iadd, 1) := dk_96 (dk_at dksX0_prints_1 18 rfl rfl)
theorem dX0_prints_43 : decode cX0_prints 43 = .ok (.putfield 340, 3) := dk_181 1 84 (dk_at dksX0_prints_1 19 rfl rfl)
theorem dX0_prints_46 : decode cX0_prints 46 = .ok (.return_, 1) := dk_177 (dk_at dksX0_prints_1 22 rfl rfl)
abbrev cX0_stands : ByteArray := prog_1_method_38_code
def yX0_stands : MethodName := ⟨RX0, "stands", "(LWheelTables$Card;)Z"⟩
def dkwX0_stands_1 : List UInt8 := [160, 0, 7, 4, 167, 0, 4, 3, 172]
abbrev dktX0_stands_1 : List UInt8 := dkwX0_stands_1 ++ []
def dkwX0_stands_0 : List UInt8 := [43, 180, 1, 136, 153, 0, 23, 43, 180, 1, 136, 4, 160, 0, 7, 4, 167, 0, 4, 3, 42, 180, 1, 96]
abbrev dktX0_stands_0 : List UInt8 := dkwX0_stands_0 ++ dktX0_stands_1
theorem dksX0_stands_0 : cX0_stands.data.toList.drop 0 = dktX0_stands_0 := by decide +kernel
theorem dksX0_stands_1 : cX0_stands.data.toList.drop 24 = dktX0_stands_1 := dk_seg dksX0_stands_0 24 rfl rfl
theorem dX0_stands_0 : decode cX0_stands 0 = .ok (.aload_n 1, 1) := dk_43 (dk_at dksX0_stands_0 0 rfl rfl)
theorem dX0_stands_1 : decode cX0_stands 1 = .ok (.getfield 392, 3) := dk_180 1 136 (dk_at dksX0_stands_0 1 rfl rfl)
theorem dX0_stands_4 : decode cX0_stands 4 = .ok (.ifCond .eq 23, 3) := dk_153 0 23 (dk_at dksX0_stands_0 4 rfl rfl)
theorem dX0_stands_7 : decode cX0_stands 7 = .ok (.aload_n 1, 1) := dk_43 (dk_at dksX0_stands_0 7 rfl rfl)
theorem dX0_stands_8 : decode cX0_stands 8 = .ok (.getfield 392, 3) := dk_180 1 136 (dk_at dksX0_stands_0 8 rfl rfl)
theorem dX0_stands_11 : decode cX0_stands 11 = .ok (.iconst 1, 1) := dk_4 (dk_at dksX0_stands_0 11 rfl rfl)
theorem dX0_stands_12 : decode cX0_stands 12 = .ok (.if_icmp .ne 7, 3) := dk_160 0 7 (dk_at dksX0_stands_0 12 rfl rfl)
theorem dX0_stands_15 : decode cX0_stands 15 = .ok (.iconst 1, 1) := dk_4 (dk_at dksX0_stands_0 15 rfl rfl)
theorem dX0_stands_16 : decode cX0_stands 16 = .ok (.goto 4, 3) := dk_167 0 4 (dk_at dksX0_stands_0 16 rfl rfl)
theorem dX0_stands_19 : decode cX0_stands 19 = .ok (.iconst 0, 1) := dk_3 (dk_at dksX0_stands_0 19 rfl rfl)
theorem dX0_stands_20 : decode cX0_stands 20 = .ok (.aload_n 0, 1) := dk_42 (dk_at dksX0_stands_0 20 rfl rfl)
theorem dX0_stands_21 : decode cX0_stands 21 = .ok (.getfield 352, 3) := dk_180 1 96 (dk_at dksX0_stands_0 21 rfl rfl)
theorem dX0_stands_24 : decode cX0_stands 24 = .ok (.if_icmp .ne 7, 3) := dk_160 0 7 (dk_at dksX0_stands_1 0 rfl rfl)
theorem dX0_stands_27 : decode cX0_stands 27 = .ok (.iconst 1, 1) := dk_4 (dk_at dksX0_stands_1 3 rfl rfl)
theorem dX0_stands_28 : decode cX0_stands 28 = .ok (.goto 4, 3) := dk_167 0 4 (dk_at dksX0_stands_1 4 rfl rfl)
theorem dX0_stands_31 : decode cX0_stands 31 = .ok (.iconst 0, 1) := dk_3 (dk_at dksX0_stands_1 7 rfl rfl)
theorem dX0_stands_32 : decode cX0_stands 32 = .ok (.ireturn, 1) := dk_172 (dk_at dksX0_stands_1 8 rfl rfl)
abbrev cX0_ran : ByteArray := prog_1_method_43_code
def yX0_ran : MethodName := ⟨RX0, "ran", "(I)I"⟩
def dkwX0_ran_3 : List UInt8 := [182, 0, 215, 172]
abbrev dktX0_ran_3 : List UInt8 := dkwX0_ran_3 ++ []
def dkwX0_ran_2 : List UInt8 := [180, 1, 87, 167, 0, 19, 27, 5, 160, 0, 10, 42, 180, 1, 90, 167, 0, 7, 42, 180, 1, 93]
abbrev dktX0_ran_2 : List UInt8 := dkwX0_ran_2 ++ dktX0_ran_3
def dkwX0_ran_1 : List UInt8 := [16, 8, 182, 0, 169, 172, 42, 27, 154, 0, 10, 42, 180, 1, 84, 167, 0, 31, 27, 4, 160, 0, 10, 42]
abbrev dktX0_ran_1 : List UInt8 := dkwX0_ran_1 ++ dktX0_ran_2
def dkwX0_ran_0 : List UInt8 := [27, 155, 0, 8, 27, 6, 164, 0, 9, 42, 8, 182, 0, 169, 172, 42, 180, 1, 99, 154, 0, 10, 42]
abbrev dktX0_ran_0 : List UInt8 := dkwX0_ran_0 ++ dktX0_ran_1
theorem dksX0_ran_0 : cX0_ran.data.toList.drop 0 = dktX0_ran_0 := by decide +kernel
theorem dksX0_ran_1 : cX0_ran.data.toList.drop 23 = dktX0_ran_1 := dk_seg dksX0_ran_0 23 rfl rfl
theorem dksX0_ran_2 : cX0_ran.data.toList.drop 47 = dktX0_ran_2 := dk_seg dksX0_ran_1 24 rfl rfl
theorem dksX0_ran_3 : cX0_ran.data.toList.drop 69 = dktX0_ran_3 := dk_seg dksX0_ran_2 22 rfl rfl
theorem dX0_ran_0 : decode cX0_ran 0 = .ok (.iload_n 1, 1) := dk_27 (dk_at dksX0_ran_0 0 rfl rfl)
theorem dX0_ran_1 : decode cX0_ran 1 = .ok (.ifCond .lt 8, 3) := dk_155 0 8 (dk_at dksX0_ran_0 1 rfl rfl)
theorem dX0_ran_4 : decode cX0_ran 4 = .ok (.iload_n 1, 1) := dk_27 (dk_at dksX0_ran_0 4 rfl rfl)
theorem dX0_ran_5 : decode cX0_ran 5 = .ok (.iconst 3, 1) := dk_6 (dk_at dksX0_ran_0 5 rfl rfl)
theorem dX0_ran_6 : decode cX0_ran 6 = .ok (.if_icmp .le 9, 3) := dk_164 0 9 (dk_at dksX0_ran_0 6 rfl rfl)
theorem dX0_ran_9 : decode cX0_ran 9 = .ok (.aload_n 0, 1) := dk_42 (dk_at dksX0_ran_0 9 rfl rfl)
theorem dX0_ran_10 : decode cX0_ran 10 = .ok (.iconst 5, 1) := dk_8 (dk_at dksX0_ran_0 10 rfl rfl)
theorem dX0_ran_11 : decode cX0_ran 11 = .ok (.invokevirtual 169, 3) := dk_182 0 169 (dk_at dksX0_ran_0 11 rfl rfl)
theorem dX0_ran_14 : decode cX0_ran 14 = .ok (.ireturn, 1) := dk_172 (dk_at dksX0_ran_0 14 rfl rfl)
theorem dX0_ran_15 : decode cX0_ran 15 = .ok (.aload_n 0, 1) := dk_42 (dk_at dksX0_ran_0 15 rfl rfl)
theorem dX0_ran_16 : decode cX0_ran 16 = .ok (.getfield 355, 3) := dk_180 1 99 (dk_at dksX0_ran_0 16 rfl rfl)
theorem dX0_ran_19 : decode cX0_ran 19 = .ok (.ifCond .ne 10, 3) := dk_154 0 10 (dk_at dksX0_ran_0 19 rfl rfl)
theorem dX0_ran_22 : decode cX0_ran 22 = .ok (.aload_n 0, 1) := dk_42 (dk_at dksX0_ran_0 22 rfl rfl)
theorem dX0_ran_23 : decode cX0_ran 23 = .ok (.bipush 8, 2) := dk_16 8 (dk_at dksX0_ran_1 0 rfl rfl)
theorem dX0_ran_25 : decode cX0_ran 25 = .ok (.invokevirtual 169, 3) := dk_182 0 169 (dk_at dksX0_ran_1 2 rfl rfl)
theorem dX0_ran_28 : decode cX0_ran 28 = .ok (.ireturn, 1) := dk_172 (dk_at dksX0_ran_1 5 rfl rfl)
theorem dX0_ran_29 : decode cX0_ran 29 = .ok (.aload_n 0, 1) := dk_42 (dk_at dksX0_ran_1 6 rfl rfl)
theorem dX0_ran_30 : decode cX0_ran 30 = .ok (.iload_n 1, 1) := dk_27 (dk_at dksX0_ran_1 7 rfl rfl)
theorem dX0_ran_31 : decode cX0_ran 31 = .ok (.ifCond .ne 10, 3) := dk_154 0 10 (dk_at dksX0_ran_1 8 rfl rfl)
theorem dX0_ran_34 : decode cX0_ran 34 = .ok (.aload_n 0, 1) := dk_42 (dk_at dksX0_ran_1 11 rfl rfl)
theorem dX0_ran_35 : decode cX0_ran 35 = .ok (.getfield 340, 3) := dk_180 1 84 (dk_at dksX0_ran_1 12 rfl rfl)
theorem dX0_ran_38 : decode cX0_ran 38 = .ok (.goto 31, 3) := dk_167 0 31 (dk_at dksX0_ran_1 15 rfl rfl)
theorem dX0_ran_41 : decode cX0_ran 41 = .ok (.iload_n 1, 1) := dk_27 (dk_at dksX0_ran_1 18 rfl rfl)
theorem dX0_ran_42 : decode cX0_ran 42 = .ok (.iconst 1, 1) := dk_4 (dk_at dksX0_ran_1 19 rfl rfl)
theorem dX0_ran_43 : decode cX0_ran 43 = .ok (.if_icmp .ne 10, 3) := dk_160 0 10 (dk_at dksX0_ran_1 20 rfl rfl)
theorem dX0_ran_46 : decode cX0_ran 46 = .ok (.aload_n 0, 1) := dk_42 (dk_at dksX0_ran_1 23 rfl rfl)
theorem dX0_ran_47 : decode cX0_ran 47 = .ok (.getfield 343, 3) := dk_180 1 87 (dk_at dksX0_ran_2 0 rfl rfl)
theorem dX0_ran_50 : decode cX0_ran 50 = .ok (.goto 19, 3) := dk_167 0 19 (dk_at dksX0_ran_2 3 rfl rfl)
theorem dX0_ran_53 : decode cX0_ran 53 = .ok (.iload_n 1, 1) := dk_27 (dk_at dksX0_ran_2 6 rfl rfl)
theorem dX0_ran_54 : decode cX0_ran 54 = .ok (.iconst 2, 1) := dk_5 (dk_at dksX0_ran_2 7 rfl rfl)
theorem dX0_ran_55 : decode cX0_ran 55 = .ok (.if_icmp .ne 10, 3) := dk_160 0 10 (dk_at dksX0_ran_2 8 rfl rfl)
theorem dX0_ran_58 : decode cX0_ran 58 = .ok (.aload_n 0, 1) := dk_42 (dk_at dksX0_ran_2 11 rfl rfl)
theorem dX0_ran_59 : decode cX0_ran 59 = .ok (.getfield 346, 3) := dk_180 1 90 (dk_at dksX0_ran_2 12 rfl rfl)
theorem dX0_ran_62 : decode cX0_ran 62 = .ok (.goto 7, 3) := dk_167 0 7 (dk_at dksX0_ran_2 15 rfl rfl)
theorem dX0_ran_65 : decode cX0_ran 65 = .ok (.aload_n 0, 1) := dk_42 (dk_at dksX0_ran_2 18 rfl rfl)
theorem dX0_ran_66 : decode cX0_ran 66 = .ok (.getfield 349, 3) := dk_180 1 93 (dk_at dksX0_ran_2 19 rfl rfl)
theorem dX0_ran_69 : decode cX0_ran 69 = .ok (.invokevirtual 215, 3) := dk_182 0 215 (dk_at dksX0_ran_3 0 rfl rfl)
theorem dX0_ran_72 : decode cX0_ran 72 = .ok (.ireturn, 1) := dk_172 (dk_at dksX0_ran_3 3 rfl rfl)
abbrev cX0_printed : ByteArray := prog_1_method_44_code
def yX0_printed : MethodName := ⟨RX0, "printed", "(I)J"⟩
def dkwX0_printed_1 : List UInt8 := [182, 0, 169, 133, 173, 42, 3, 181, 0, 145, 42, 180, 0, 76, 27, 47, 173]
abbrev dktX0_printed_1 : List UInt8 := dkwX0_printed_1 ++ []
def dkwX0_printed_0 : List UInt8 := [42, 180, 1, 99, 153, 0, 15, 27, 155, 0, 11, 27, 42, 180, 1, 81, 161, 0, 11, 42, 16, 8]
abbrev dktX0_printed_0 : List UInt8 := dkwX0_printed_0 ++ dktX0_printed_1
theorem dksX0_printed_0 : cX0_printed.data.toList.drop 0 = dktX0_printed_0 := by decide +kernel
theorem dksX0_printed_1 : cX0_printed.data.toList.drop 22 = dktX0_printed_1 := dk_seg dksX0_printed_0 22 rfl rfl
theorem dX0_printed_0 : decode cX0_printed 0 = .ok (.aload_n 0, 1) := dk_42 (dk_at dksX0_printed_0 0 rfl rfl)
theorem dX0_printed_1 : decode cX0_printed 1 = .ok (.getfield 355, 3) := dk_180 1 99 (dk_at dksX0_printed_0 1 rfl rfl)
theorem dX0_printed_4 : decode cX0_printed 4 = .ok (.ifCond .eq 15, 3) := dk_153 0 15 (dk_at dksX0_printed_0 4 rfl rfl)
theorem dX0_printed_7 : decode cX0_printed 7 = .ok (.iload_n 1, 1) := dk_27 (dk_at dksX0_printed_0 7 rfl rfl)
theorem dX0_printed_8 : decode cX0_printed 8 = .ok (.ifCond .lt 11, 3) := dk_155 0 11 (dk_at dksX0_printed_0 8 rfl rfl)
theorem dX0_printed_11 : decode cX0_printed 11 = .ok (.iload_n 1, 1) := dk_27 (dk_at dksX0_printed_0 11 rfl rfl)
theorem dX0_printed_12 : decode cX0_printed 12 = .ok (.aload_n 0, 1) := dk_42 (dk_at dksX0_printed_0 12 rfl rfl)
theorem dX0_printed_13 : decode cX0_printed 13 = .ok (.getfield 337, 3) := dk_180 1 81 (dk_at dksX0_printed_0 13 rfl rfl)
theorem dX0_printed_16 : decode cX0_printed 16 = .ok (.if_icmp .lt 11, 3) := dk_161 0 11 (dk_at dksX0_printed_0 16 rfl rfl)
theorem dX0_printed_19 : decode cX0_printed 19 = .ok (.aload_n 0, 1) := dk_42 (dk_at dksX0_printed_0 19 rfl rfl)
theorem dX0_printed_20 : decode cX0_printed 20 = .ok (.bipush 8, 2) := dk_16 8 (dk_at dksX0_printed_0 20 rfl rfl)
theorem dX0_printed_22 : decode cX0_printed 22 = .ok (.invokevirtual 169, 3) := dk_182 0 169 (dk_at dksX0_printed_1 0 rfl rfl)
theorem dX0_printed_25 : decode cX0_printed 25 = .ok (.i2l, 1) := dk_133 (dk_at dksX0_printed_1 3 rfl rfl)
theorem dX0_printed_26 : decode cX0_printed 26 = .ok (.lreturn, 1) := dk_173 (dk_at dksX0_printed_1 4 rfl rfl)
theorem dX0_printed_27 : decode cX0_printed 27 = .ok (.aload_n 0, 1) := dk_42 (dk_at dksX0_printed_1 5 rfl rfl)
theorem dX0_printed_28 : decode cX0_printed 28 = .ok (.iconst 0, 1) := dk_3 (dk_at dksX0_printed_1 6 rfl rfl)
theorem dX0_printed_29 : decode cX0_printed 29 = .ok (.putfield 145, 3) := dk_181 0 145 (dk_at dksX0_printed_1 7 rfl rfl)
theorem dX0_printed_32 : decode cX0_printed 32 = .ok (.aload_n 0, 1) := dk_42 (dk_at dksX0_printed_1 10 rfl rfl)
theorem dX0_printed_33 : decode cX0_printed 33 = .ok (.getfield 76, 3) := dk_180 0 76 (dk_at dksX0_printed_1 11 rfl rfl)
theorem dX0_printed_36 : decode cX0_printed 36 = .ok (.iload_n 1, 1) := dk_27 (dk_at dksX0_printed_1 14 rfl rfl)
theorem dX0_printed_37 : decode cX0_printed 37 = .ok (.laload, 1) := dk_47 (dk_at dksX0_printed_1 15 rfl rfl)
theorem dX0_printed_38 : decode cX0_printed 38 = .ok (.lreturn, 1) := dk_173 (dk_at dksX0_printed_1 16 rfl rfl)
abbrev cX0_place : ByteArray := prog_1_method_45_code
def yX0_place : MethodName := ⟨RX0, "place", "(I)J"⟩
def dkwX0_place_1 : List UInt8 := [42, 16, 8, 182, 0, 169, 133, 173, 42, 3, 181, 0, 145, 42, 180, 0, 73, 27, 47, 173]
abbrev dktX0_place_1 : List UInt8 := dkwX0_place_1 ++ []
def dkwX0_place_0 : List UInt8 := [27, 155, 0, 9, 27, 16, 20, 161, 0, 10, 42, 5, 182, 0, 169, 133, 173, 42, 180, 1, 99, 154, 0, 11]
abbrev dktX0_place_0 : List UInt8 := dkwX0_place_0 ++ dktX0_place_1
theorem dksX0_place_0 : cX0_place.data.toList.drop 0 = dktX0_place_0 := by decide +kernel
theorem dksX0_place_1 : cX0_place.data.toList.drop 24 = dktX0_place_1 := dk_seg dksX0_place_0 24 rfl rfl
theorem dX0_place_0 : decode cX0_place 0 = .ok (.iload_n 1, 1) := dk_27 (dk_at dksX0_place_0 0 rfl rfl)
theorem dX0_place_1 : decode cX0_place 1 = .ok (.ifCond .lt 9, 3) := dk_155 0 9 (dk_at dksX0_place_0 1 rfl rfl)
theorem dX0_place_4 : decode cX0_place 4 = .ok (.iload_n 1, 1) := dk_27 (dk_at dksX0_place_0 4 rfl rfl)
theorem dX0_place_5 : decode cX0_place 5 = .ok (.bipush 20, 2) := dk_16 20 (dk_at dksX0_place_0 5 rfl rfl)
theorem dX0_place_7 : decode cX0_place 7 = .ok (.if_icmp .lt 10, 3) := dk_161 0 10 (dk_at dksX0_place_0 7 rfl rfl)
theorem dX0_place_10 : decode cX0_place 10 = .ok (.aload_n 0, 1) := dk_42 (dk_at dksX0_place_0 10 rfl rfl)
theorem dX0_place_11 : decode cX0_place 11 = .ok (.iconst 2, 1) := dk_5 (dk_at dksX0_place_0 11 rfl rfl)
theorem dX0_place_12 : decode cX0_place 12 = .ok (.invokevirtual 169, 3) := dk_182 0 169 (dk_at dksX0_place_0 12 rfl rfl)
theorem dX0_place_15 : decode cX0_place 15 = .ok (.i2l, 1) := dk_133 (dk_at dksX0_place_0 15 rfl rfl)
theorem dX0_place_16 : decode cX0_place 16 = .ok (.lreturn, 1) := dk_173 (dk_at dksX0_place_0 16 rfl rfl)
theorem dX0_place_17 : decode cX0_place 17 = .ok (.aload_n 0, 1) := dk_42 (dk_at dksX0_place_0 17 rfl rfl)
theorem dX0_place_18 : decode cX0_place 18 = .ok (.getfield 355, 3) := dk_180 1 99 (dk_at dksX0_place_0 18 rfl rfl)
theorem dX0_place_21 : decode cX0_place 21 = .ok (.ifCond .ne 11, 3) := dk_154 0 11 (dk_at dksX0_place_0 21 rfl rfl)
theorem dX0_place_24 : decode cX0_place 24 = .ok (.aload_n 0, 1) := dk_42 (dk_at dksX0_place_1 0 rfl rfl)
theorem dX0_place_25 : decode cX0_place 25 = .ok (.bipush 8, 2) := dk_16 8 (dk_at dksX0_place_1 1 rfl rfl)
theorem dX0_place_27 : decode cX0_place 27 = .ok (.invokevirtual 169, 3) := dk_182 0 169 (dk_at dksX0_place_1 3 rfl rfl)
theorem dX0_place_30 : decode cX0_place 30 = .ok (.i2l, 1) := dk_133 (dk_at dksX0_place_1 6 rfl rfl)
theorem dX0_place_31 : decode cX0_place 31 = .ok (.lreturn, 1) := dk_173 (dk_at dksX0_place_1 7 rfl rfl)
theorem dX0_place_32 : decode cX0_place 32 = .ok (.aload_n 0, 1) := dk_42 (dk_at dksX0_place_1 8 rfl rfl)
theorem dX0_place_33 : decode cX0_place 33 = .ok (.iconst 0, 1) := dk_3 (dk_at dksX0_place_1 9 rfl rfl)
theorem dX0_place_34 : decode cX0_place 34 = .ok (.putfield 145, 3) := dk_181 0 145 (dk_at dksX0_place_1 10 rfl rfl)
theorem dX0_place_37 : decode cX0_place 37 = .ok (.aload_n 0, 1) := dk_42 (dk_at dksX0_place_1 13 rfl rfl)
theorem dX0_place_38 : decode cX0_place 38 = .ok (.getfield 73, 3) := dk_180 0 73 (dk_at dksX0_place_1 14 rfl rfl)
theorem dX0_place_41 : decode cX0_place 41 = .ok (.iload_n 1, 1) := dk_27 (dk_at dksX0_place_1 17 rfl rfl)
theorem dX0_place_42 : decode cX0_place 42 = .ok (.laload, 1) := dk_47 (dk_at dksX0_place_1 18 rfl rfl)
theorem dX0_place_43 : decode cX0_place 43 = .ok (.lreturn, 1) := dk_173 (dk_at dksX0_place_1 19 rfl rfl)
abbrev cX0_turns : ByteArray := prog_1_method_48_code
def yX0_turns : MethodName := ⟨RX0, "turns", "(J)I"⟩
def dkwX0_turns_1 : List UInt8 := [172]
abbrev dktX0_turns_1 : List UInt8 := dkwX0_turns_1 ++ []
def dkwX0_turns_0 : List UInt8 := [31, 184, 1, 146, 153, 0, 11, 42, 8, 182, 0, 169, 167, 0, 12, 42, 42, 31, 182, 1, 121, 182, 0, 215]
abbrev dktX0_turns_0 : List UInt8 := dkwX0_turns_0 ++ dktX0_turns_1
theorem dksX0_turns_0 : cX0_turns.data.toList.drop 0 = dktX0_turns_0 := by decide +kernel
theorem dksX0_turns_1 : cX0_turns.data.toList.drop 24 = dktX0_turns_1 := dk_seg dksX0_turns_0 24 rfl rfl
theorem dX0_turns_0 : decode cX0_turns 0 = .ok (.lload_n 1, 1) := dk_31 (dk_at dksX0_turns_0 0 rfl rfl)
theorem dX0_turns_1 : decode cX0_turns 1 = .ok (.invokestatic 402, 3) := dk_184 1 146 (dk_at dksX0_turns_0 1 rfl rfl)
theorem dX0_turns_4 : decode cX0_turns 4 = .ok (.ifCond .eq 11, 3) := dk_153 0 11 (dk_at dksX0_turns_0 4 rfl rfl)
theorem dX0_turns_7 : decode cX0_turns 7 = .ok (.aload_n 0, 1) := dk_42 (dk_at dksX0_turns_0 7 rfl rfl)
theorem dX0_turns_8 : decode cX0_turns 8 = .ok (.iconst 5, 1) := dk_8 (dk_at dksX0_turns_0 8 rfl rfl)
theorem dX0_turns_9 : decode cX0_turns 9 = .ok (.invokevirtual 169, 3) := dk_182 0 169 (dk_at dksX0_turns_0 9 rfl rfl)
theorem dX0_turns_12 : decode cX0_turns 12 = .ok (.goto 12, 3) := dk_167 0 12 (dk_at dksX0_turns_0 12 rfl rfl)
theorem dX0_turns_15 : decode cX0_turns 15 = .ok (.aload_n 0, 1) := dk_42 (dk_at dksX0_turns_0 15 rfl rfl)
theorem dX0_turns_16 : decode cX0_turns 16 = .ok (.aload_n 0, 1) := dk_42 (dk_at dksX0_turns_0 16 rfl rfl)
theorem dX0_turns_17 : decode cX0_turns 17 = .ok (.lload_n 1, 1) := dk_31 (dk_at dksX0_turns_0 17 rfl rfl)
theorem dX0_turns_18 : decode cX0_turns 18 = .ok (.invokevirtual 377, 3) := dk_182 1 121 (dk_at dksX0_turns_0 18 rfl rfl)
theorem dX0_turns_21 : decode cX0_turns 21 = .ok (.invokevirtual 215, 3) := dk_182 0 215 (dk_at dksX0_turns_0 21 rfl rfl)
theorem dX0_turns_24 : decode cX0_turns 24 = .ok (.ireturn, 1) := dk_172 (dk_at dksX0_turns_1 0 rfl rfl)
abbrev cX0_isGreat : ByteArray := prog_1_method_47_code
def yX0_isGreat : MethodName := ⟨RX0, "isGreat", "(J)Z"⟩
def dkwX0_isGreat_0 : List UInt8 := [30, 9, 148, 155, 0, 11, 30, 20, 1, 117, 148, 158, 0, 7, 4, 167, 0, 4, 3, 172]
abbrev dktX0_isGreat_0 : List UInt8 := dkwX0_isGreat_0 ++ []
theorem dksX0_isGreat_0 : cX0_isGreat.data.toList.drop 0 = dktX0_isGreat_0 := by decide +kernel
theorem dX0_isGreat_0 : decode cX0_isGreat 0 = .ok (.lload_n 0, 1) := dk_30 (dk_at dksX0_isGreat_0 0 rfl rfl)
theorem dX0_isGreat_1 : decode cX0_isGreat 1 = .ok (.lconst 0, 1) := dk_9 (dk_at dksX0_isGreat_0 1 rfl rfl)
theorem dX0_isGreat_2 : decode cX0_isGreat 2 = .ok (.lcmp, 1) := dk_148 (dk_at dksX0_isGreat_0 2 rfl rfl)
theorem dX0_isGreat_3 : decode cX0_isGreat 3 = .ok (.ifCond .lt 11, 3) := dk_155 0 11 (dk_at dksX0_isGreat_0 3 rfl rfl)
theorem dX0_isGreat_6 : decode cX0_isGreat 6 = .ok (.lload_n 0, 1) := dk_30 (dk_at dksX0_isGreat_0 6 rfl rfl)
theorem dX0_isGreat_7 : decode cX0_isGreat 7 = .ok (.ldc2_w 373, 3) := dk_20 1 117 (dk_at dksX0_isGreat_0 7 rfl rfl)
theorem dX0_isGreat_10 : decode cX0_isGreat 10 = .ok (.lcmp, 1) := dk_148 (dk_at dksX0_isGreat_0 10 rfl rfl)
theorem dX0_isGreat_11 : decode cX0_isGreat 11 = .ok (.ifCond .le 7, 3) := dk_158 0 7 (dk_at dksX0_isGreat_0 11 rfl rfl)
theorem dX0_isGreat_14 : decode cX0_isGreat 14 = .ok (.iconst 1, 1) := dk_4 (dk_at dksX0_isGreat_0 14 rfl rfl)
theorem dX0_isGreat_15 : decode cX0_isGreat 15 = .ok (.goto 4, 3) := dk_167 0 4 (dk_at dksX0_isGreat_0 15 rfl rfl)
theorem dX0_isGreat_18 : decode cX0_isGreat 18 = .ok (.iconst 0, 1) := dk_3 (dk_at dksX0_isGreat_0 18 rfl rfl)
theorem dX0_isGreat_19 : decode cX0_isGreat 19 = .ok (.ireturn, 1) := dk_172 (dk_at dksX0_isGreat_0 19 rfl rfl)
abbrev cX0_turnsAt : ByteArray := prog_1_method_49_code
def yX0_turnsAt : MethodName := ⟨RX0, "turnsAt", "(JI)I"⟩
def dkwX0_turnsAt_1 : List UInt8 := [31, 182, 1, 121, 54, 4, 42, 42, 180, 0, 82, 29, 46, 182, 0, 215, 172]
abbrev dktX0_turnsAt_1 : List UInt8 := dkwX0_turnsAt_1 ++ []
def dkwX0_turnsAt_0 : List UInt8 := [31, 184, 1, 146, 154, 0, 13, 29, 155, 0, 9, 29, 16, 12, 164, 0, 9, 42, 8, 182, 0, 169, 172, 42]
abbrev dktX0_turnsAt_0 : List UInt8 := dkwX0_turnsAt_0 ++ dktX0_turnsAt_1
theorem dksX0_turnsAt_0 : cX0_turnsAt.data.toList.drop 0 = dktX0_turnsAt_0 := by decide +kernel
theorem dksX0_turnsAt_1 : cX0_turnsAt.data.toList.drop 24 = dktX0_turnsAt_1 := dk_seg dksX0_turnsAt_0 24 rfl rfl
theorem dX0_turnsAt_0 : decode cX0_turnsAt 0 = .ok (.lload_n 1, 1) := dk_31 (dk_at dksX0_turnsAt_0 0 rfl rfl)
theorem dX0_turnsAt_1 : decode cX0_turnsAt 1 = .ok (.invokestatic 402, 3) := dk_184 1 146 (dk_at dksX0_turnsAt_0 1 rfl rfl)
theorem dX0_turnsAt_4 : decode cX0_turnsAt 4 = .ok (.ifCond .ne 13, 3) := dk_154 0 13 (dk_at dksX0_turnsAt_0 4 rfl rfl)
theorem dX0_turnsAt_7 : decode cX0_turnsAt 7 = .ok (.iload_n 3, 1) := dk_29 (dk_at dksX0_turnsAt_0 7 rfl rfl)
theorem dX0_turnsAt_8 : decode cX0_turnsAt 8 = .ok (.ifCond .lt 9, 3) := dk_155 0 9 (dk_at dksX0_turnsAt_0 8 rfl rfl)
theorem dX0_turnsAt_11 : decode cX0_turnsAt 11 = .ok (.iload_n 3, 1) := dk_29 (dk_at dksX0_turnsAt_0 11 rfl rfl)
theorem dX0_turnsAt_12 : decode cX0_turnsAt 12 = .ok (.bipush 12, 2) := dk_16 12 (dk_at dksX0_turnsAt_0 12 rfl rfl)
theorem dX0_turnsAt_14 : decode cX0_turnsAt 14 = .ok (.if_icmp .le 9, 3) := dk_164 0 9 (dk_at dksX0_turnsAt_0 14 rfl rfl)
theorem dX0_turnsAt_17 : decode cX0_turnsAt 17 = .ok (.aload_n 0, 1) := dk_42 (dk_at dksX0_turnsAt_0 17 rfl rfl)
theorem dX0_turnsAt_18 : decode cX0_turnsAt 18 = .ok (.iconst 5, 1) := dk_8 (dk_at dksX0_turnsAt_0 18 rfl rfl)
theorem dX0_turnsAt_19 : decode cX0_turnsAt 19 = .ok (.invokevirtual 169, 3) := dk_182 0 169 (dk_at dksX0_turnsAt_0 19 rfl rfl)
theorem dX0_turnsAt_22 : decode cX0_turnsAt 22 = .ok (.ireturn, 1) := dk_172 (dk_at dksX0_turnsAt_0 22 rfl rfl)
theorem dX0_turnsAt_23 : decode cX0_turnsAt 23 = .ok (.aload_n 0, 1) := dk_42 (dk_at dksX0_turnsAt_0 23 rfl rfl)
theorem dX0_turnsAt_24 : decode cX0_turnsAt 24 = .ok (.lload_n 1, 1) := dk_31 (dk_at dksX0_turnsAt_1 0 rfl rfl)
theorem dX0_turnsAt_25 : decode cX0_turnsAt 25 = .ok (.invokevirtual 377, 3) := dk_182 1 121 (dk_at dksX0_turnsAt_1 1 rfl rfl)
theorem dX0_turnsAt_28 : decode cX0_turnsAt 28 = .ok (.istore 4, 2) := dk_54 4 (dk_at dksX0_turnsAt_1 4 rfl rfl)
theorem dX0_turnsAt_30 : decode cX0_turnsAt 30 = .ok (.aload_n 0, 1) := dk_42 (dk_at dksX0_turnsAt_1 6 rfl rfl)
theorem dX0_turnsAt_31 : decode cX0_turnsAt 31 = .ok (.aload_n 0, 1) := dk_42 (dk_at dksX0_turnsAt_1 7 rfl rfl)
theorem dX0_turnsAt_32 : decode cX0_turnsAt 32 = .ok (.getfield 82, 3) := dk_180 0 82 (dk_at dksX0_turnsAt_1 8 rfl rfl)
theorem dX0_turnsAt_35 : decode cX0_turnsAt 35 = .ok (.iload_n 3, 1) := dk_29 (dk_at dksX0_turnsAt_1 11 rfl rfl)
theorem dX0_turnsAt_36 : decode cX0_turnsAt 36 = .ok (.iaload, 1) := dk_46 (dk_at dksX0_turnsAt_1 12 rfl rfl)
theorem dX0_turnsAt_37 : decode cX0_turnsAt 37 = .ok (.invokevirtual 215, 3) := dk_182 0 215 (dk_at dksX0_turnsAt_1 13 rfl rfl)
theorem dX0_turnsAt_40 : decode cX0_turnsAt 40 = .ok (.ireturn, 1) := dk_172 (dk_at dksX0_turnsAt_1 16 rfl rfl)
abbrev cX0_errata : ByteArray := prog_1_method_59_code
def yX0_errata : MethodName := ⟨RX0, "errata", "(IIII)I"⟩
def dkwX0_errata_10 : List UInt8 := [182, 0, 215, 167, 0, 9, 42, 16, 8, 182, 0, 169, 172]
abbrev dktX0_errata_10 : List UInt8 := dkwX0_errata_10 ++ []
def dkwX0_errata_9 : List UInt8 := [42, 182, 1, 186, 153, 0, 9, 42, 4, 182, 0, 215, 172, 42, 182, 1, 190, 153, 0, 11, 42, 5]
abbrev dktX0_errata_9 : List UInt8 := dkwX0_errata_9 ++ dktX0_errata_10
def dkwX0_errata_8 : List UInt8 := [16, 248, 16, 248, 182, 1, 168, 153, 0, 17, 42, 2, 3, 2, 3, 182, 1, 178, 42, 3, 182, 0, 215, 172]
abbrev dktX0_errata_8 : List UInt8 := dkwX0_errata_8 ++ dktX0_errata_9
def dkwX0_errata_7 : List UInt8 := [132, 6, 1, 167, 255, 233, 42, 28, 181, 1, 159, 42, 29, 181, 1, 150, 42, 21, 4, 181, 1, 153, 42]
abbrev dktX0_errata_7 : List UInt8 := dkwX0_errata_7 ++ dktX0_errata_8
def dkwX0_errata_6 : List UInt8 := [3, 54, 6, 21, 6, 28, 162, 0, 23, 42, 180, 0, 90, 21, 6, 25, 5, 21, 6, 182, 0, 173, 80]
abbrev dktX0_errata_6 : List UInt8 := dkwX0_errata_6 ++ dktX0_errata_7
def dkwX0_errata_5 : List UInt8 := [21, 6, 182, 0, 173, 20, 1, 184, 148, 158, 0, 9, 42, 8, 182, 0, 169, 172, 132, 6, 1, 167, 255, 215]
abbrev dktX0_errata_5 : List UInt8 := dkwX0_errata_5 ++ dktX0_errata_6
def dkwX0_errata_4 : List UInt8 := [3, 54, 6, 21, 6, 28, 162, 0, 41, 25, 5, 21, 6, 182, 0, 173, 9, 148, 155, 0, 17, 25, 5]
abbrev dktX0_errata_4 : List UInt8 := dkwX0_errata_4 ++ dktX0_errata_5
def dkwX0_errata_3 : List UInt8 := [164, 0, 9, 42, 8, 182, 0, 169, 172, 25, 5, 182, 0, 204, 28, 162, 0, 9, 42, 7, 182, 0, 169, 172]
abbrev dktX0_errata_3 : List UInt8 := dkwX0_errata_3 ++ dktX0_errata_4
def dkwX0_errata_2 : List UInt8 := [4, 161, 0, 26, 29, 7, 163, 0, 21, 29, 28, 162, 0, 16, 21, 4, 155, 0, 11, 21, 4, 17, 3, 232]
abbrev dktX0_errata_2 : List UInt8 := dkwX0_errata_2 ++ dktX0_errata_3
def dkwX0_errata_1 : List UInt8 := [180, 0, 179, 199, 0, 9, 42, 6, 182, 0, 169, 172, 28, 6, 161, 0, 37, 28, 16, 20, 163, 0, 31, 29]
abbrev dktX0_errata_1 : List UInt8 := dkwX0_errata_1 ++ dktX0_errata_2
def dkwX0_errata_0 : List UInt8 := [27, 184, 0, 148, 154, 0, 9, 42, 4, 182, 0, 169, 172, 42, 180, 0, 11, 27, 50, 58, 5, 25, 5]
abbrev dktX0_errata_0 : List UInt8 := dkwX0_errata_0 ++ dktX0_errata_1
theorem dksX0_errata_0 : cX0_errata.data.toList.drop 0 = dktX0_errata_0 := by decide +kernel
theorem dksX0_errata_1 : cX0_errata.data.toList.drop 23 = dktX0_errata_1 := dk_seg dksX0_errata_0 23 rfl rfl
theorem dksX0_errata_2 : cX0_errata.data.toList.drop 47 = dktX0_errata_2 := dk_seg dksX0_errata_1 24 rfl rfl
theorem dksX0_errata_3 : cX0_errata.data.toList.drop 71 = dktX0_errata_3 := dk_seg dksX0_errata_2 24 rfl rfl
theorem dksX0_errata_4 : cX0_errata.data.toList.drop 95 = dktX0_errata_4 := dk_seg dksX0_errata_3 24 rfl rfl
theorem dksX0_errata_5 : cX0_errata.data.toList.drop 118 = dktX0_errata_5 := dk_seg dksX0_errata_4 23 rfl rfl
theorem dksX0_errata_6 : cX0_errata.data.toList.drop 142 = dktX0_errata_6 := dk_seg dksX0_errata_5 24 rfl rfl
theorem dksX0_errata_7 : cX0_errata.data.toList.drop 165 = dktX0_errata_7 := dk_seg dksX0_errata_6 23 rfl rfl
theorem dksX0_errata_8 : cX0_errata.data.toList.drop 188 = dktX0_errata_8 := dk_seg dksX0_errata_7 23 rfl rfl
theorem dksX0_errata_9 : cX0_errata.data.toList.drop 212 = dktX0_errata_9 := dk_seg dksX0_errata_8 24 rfl rfl
theorem dksX0_errata_10 : cX0_errata.data.toList.drop 234 = dktX0_errata_10 := dk_seg dksX0_errata_9 22 rfl rfl
theorem dX0_errata_0 : decode cX0_errata 0 = .ok (.iload_n 1, 1) := dk_27 (dk_at dksX0_errata_0 0 rfl rfl)
theorem dX0_errata_1 : decode cX0_errata 1 = .ok (.invokestatic 148, 3) := dk_184 0 148 (dk_at dksX0_errata_0 1 rfl rfl)
theorem dX0_errata_4 : decode cX0_errata 4 = .ok (.ifCond .ne 9, 3) := dk_154 0 9 (dk_at dksX0_errata_0 4 rfl rfl)
theorem dX0_errata_7 : decode cX0_errata 7 = .ok (.aload_n 0, 1) := dk_42 (dk_at dksX0_errata_0 7 rfl rfl)
theorem dX0_errata_8 : decode cX0_errata 8 = .ok (.iconst 1, 1) := dk_4 (dk_at dksX0_errata_0 8 rfl rfl)
theorem dX0_errata_9 : decode cX0_errata 9 = .ok (.invokevirtual 169, 3) := dk_182 0 169 (dk_at dksX0_errata_0 9 rfl rfl)
theorem dX0_errata_12 : decode cX0_errata 12 = .ok (.ireturn, 1) := dk_172 (dk_at dksX0_errata_0 12 rfl rfl)
theorem dX0_errata_13 : decode cX0_errata 13 = .ok (.aload_n 0, 1) := dk_42 (dk_at dksX0_errata_0 13 rfl rfl)
theorem dX0_errata_14 : decode cX0_errata 14 = .ok (.getfield 11, 3) := dk_180 0 11 (dk_at dksX0_errata_0 14 rfl rfl)
theorem dX0_errata_17 : decode cX0_errata 17 = .ok (.iload_n 1, 1) := dk_27 (dk_at dksX0_errata_0 17 rfl rfl)
theorem dX0_errata_18 : decode cX0_errata 18 = .ok (.aaload, 1) := dk_50 (dk_at dksX0_errata_0 18 rfl rfl)
theorem dX0_errata_19 : decode cX0_errata 19 = .ok (.astore 5, 2) := dk_58 5 (dk_at dksX0_errata_0 19 rfl rfl)
theorem dX0_errata_21 : decode cX0_errata 21 = .ok (.aload 5, 2) := dk_25 5 (dk_at dksX0_errata_0 21 rfl rfl)
theorem dX0_errata_23 : decode cX0_errata 23 = .ok (.getfield 179, 3) := dk_180 0 179 (dk_at dksX0_errata_1 0 rfl rfl)
theorem dX0_errata_26 : decode cX0_errata 26 = .ok (.ifnonnull 9, 3) := dk_199 0 9 (dk_at dksX0_errata_1 3 rfl rfl)
theorem dX0_errata_29 : decode cX0_errata 29 = .ok (.aload_n 0, 1) := dk_42 (dk_at dksX0_errata_1 6 rfl rfl)
theorem dX0_errata_30 : decode cX0_errata 30 = .ok (.iconst 3, 1) := dk_6 (dk_at dksX0_errata_1 7 rfl rfl)
theorem dX0_errata_31 : decode cX0_errata 31 = .ok (.invokevirtual 169, 3) := dk_182 0 169 (dk_at dksX0_errata_1 8 rfl rfl)
theorem dX0_errata_34 : decode cX0_errata 34 = .ok (.ireturn, 1) := dk_172 (dk_at dksX0_errata_1 11 rfl rfl)
theorem dX0_errata_35 : decode cX0_errata 35 = .ok (.iload_n 2, 1) := dk_28 (dk_at dksX0_errata_1 12 rfl rfl)
theorem dX0_errata_36 : decode cX0_errata 36 = .ok (.iconst 3, 1) := dk_6 (dk_at dksX0_errata_1 13 rfl rfl)
theorem dX0_errata_37 : decode cX0_errata 37 = .ok (.if_icmp .lt 37, 3) := dk_161 0 37 (dk_at dksX0_errata_1 14 rfl rfl)
theorem dX0_errata_40 : decode cX0_errata 40 = .ok (.iload_n 2, 1) := dk_28 (dk_at dksX0_errata_1 17 rfl rfl)
theorem dX0_errata_41 : decode cX0_errata 41 = .ok (.bipush 20, 2) := dk_16 20 (dk_at dksX0_errata_1 18 rfl rfl)
theorem dX0_errata_43 : decode cX0_errata 43 = .ok (.if_icmp .gt 31, 3) := dk_163 0 31 (dk_at dksX0_errata_1 20 rfl rfl)
theorem dX0_errata_46 : decode cX0_errata 46 = .ok (.iload_n 3, 1) := dk_29 (dk_at dksX0_errata_1 23 rfl rfl)
theorem dX0_errata_47 : decode cX0_errata 47 = .ok (.iconst 1, 1) := dk_4 (dk_at dksX0_errata_2 0 rfl rfl)
theorem dX0_errata_48 : decode cX0_errata 48 = .ok (.if_icmp .lt 26, 3) := dk_161 0 26 (dk_at dksX0_errata_2 1 rfl rfl)
theorem dX0_errata_51 : decode cX0_errata 51 = .ok (.iload_n 3, 1) := dk_29 (dk_at dksX0_errata_2 4 rfl rfl)
theorem dX0_errata_52 : decode cX0_errata 52 = .ok (.iconst 4, 1) := dk_7 (dk_at dksX0_errata_2 5 rfl rfl)
theorem dX0_errata_53 : decode cX0_errata 53 = .ok (.if_icmp .gt 21, 3) := dk_163 0 21 (dk_at dksX0_errata_2 6 rfl rfl)
theorem dX0_errata_56 : decode cX0_errata 56 = .ok (.iload_n 3, 1) := dk_29 (dk_at dksX0_errata_2 9 rfl rfl)
theorem dX0_errata_57 : decode cX0_errata 57 = .ok (.iload_n 2, 1) := dk_28 (dk_at dksX0_errata_2 10 rfl rfl)
theorem dX0_errata_58 : decode cX0_errata 58 = .ok (.if_icmp .ge 16, 3) := dk_162 0 16 (dk_at dksX0_errata_2 11 rfl rfl)
theorem dX0_errata_61 : decode cX0_errata 61 = .ok (.iload 4, 2) := dk_21 4 (dk_at dksX0_errata_2 14 rfl rfl)
theorem dX0_errata_63 : decode cX0_errata 63 = .ok (.ifCond .lt 11, 3) := dk_155 0 11 (dk_at dksX0_errata_2 16 rfl rfl)
theorem dX0_errata_66 : decode cX0_errata 66 = .ok (.iload 4, 2) := dk_21 4 (dk_at dksX0_errata_2 19 rfl rfl)
theorem dX0_errata_68 : decode cX0_errata 68 = .ok (.sipush 1000, 3) := dk_17 3 232 (dk_at dksX0_errata_2 21 rfl rfl)
theorem dX0_errata_71 : decode cX0_errata 71 = .ok (.if_icmp .le 9, 3) := dk_164 0 9 (dk_at dksX0_errata_3 0 rfl rfl)
theorem dX0_errata_74 : decode cX0_errata 74 = .ok (.aload_n 0, 1) := dk_42 (dk_at dksX0_errata_3 3 rfl rfl)
theorem dX0_errata_75 : decode cX0_errata 75 = .ok (.iconst 5, 1) := dk_8 (dk_at dksX0_errata_3 4 rfl rfl)
theorem dX0_errata_76 : decode cX0_errata 76 = .ok (.invokevirtual 169, 3) := dk_182 0 169 (dk_at dksX0_errata_3 5 rfl rfl)
theorem dX0_errata_79 : decode cX0_errata 79 = .ok (.ireturn, 1) := dk_172 (dk_at dksX0_errata_3 8 rfl rfl)
theorem dX0_errata_80 : decode cX0_errata 80 = .ok (.aload 5, 2) := dk_25 5 (dk_at dksX0_errata_3 9 rfl rfl)
theorem dX0_errata_82 : decode cX0_errata 82 = .ok (.invokevirtual 204, 3) := dk_182 0 204 (dk_at dksX0_errata_3 11 rfl rfl)
theorem dX0_errata_85 : decode cX0_errata 85 = .ok (.iload_n 2, 1) := dk_28 (dk_at dksX0_errata_3 14 rfl rfl)
theorem dX0_errata_86 : decode cX0_errata 86 = .ok (.if_icmp .ge 9, 3) := dk_162 0 9 (dk_at dksX0_errata_3 15 rfl rfl)
theorem dX0_errata_89 : decode cX0_errata 89 = .ok (.aload_n 0, 1) := dk_42 (dk_at dksX0_errata_3 18 rfl rfl)
theorem dX0_errata_90 : decode cX0_errata 90 = .ok (.iconst 4, 1) := dk_7 (dk_at dksX0_errata_3 19 rfl rfl)
theorem dX0_errata_91 : decode cX0_errata 91 = .ok (.invokevirtual 169, 3) := dk_182 0 169 (dk_at dksX0_errata_3 20 rfl rfl)
theorem dX0_errata_94 : decode cX0_errata 94 = .ok (.ireturn, 1) := dk_172 (dk_at dksX0_errata_3 23 rfl rfl)
theorem dX0_errata_95 : decode cX0_errata 95 = .ok (.iconst 0, 1) := dk_3 (dk_at dksX0_errata_4 0 rfl rfl)
theorem dX0_errata_96 : decode cX0_errata 96 = .ok (.istore 6, 2) := dk_54 6 (dk_at dksX0_errata_4 1 rfl rfl)
theorem dX0_errata_98 : decode cX0_errata 98 = .ok (.iload 6, 2) := dk_21 6 (dk_at dksX0_errata_4 3 rfl rfl)
theorem dX0_errata_100 : decode cX0_errata 100 = .ok (.iload_n 2, 1) := dk_28 (dk_at dksX0_errata_4 5 rfl rfl)
theorem dX0_errata_101 : decode cX0_errata 101 = .ok (.if_icmp .ge 41, 3) := dk_162 0 41 (dk_at dksX0_errata_4 6 rfl rfl)
theorem dX0_errata_104 : decode cX0_errata 104 = .ok (.aload 5, 2) := dk_25 5 (dk_at dksX0_errata_4 9 rfl rfl)
theorem dX0_errata_106 : decode cX0_errata 106 = .ok (.iload 6, 2) := dk_21 6 (dk_at dksX0_errata_4 11 rfl rfl)
theorem dX0_errata_108 : decode cX0_errata 108 = .ok (.invokevirtual 173, 3) := dk_182 0 173 (dk_at dksX0_errata_4 13 rfl rfl)
theorem dX0_errata_111 : decode cX0_errata 111 = .ok (.lconst 0, 1) := dk_9 (dk_at dksX0_errata_4 16 rfl rfl)
theorem dX0_errata_112 : decode cX0_errata 112 = .ok (.lcmp, 1) := dk_148 (dk_at dksX0_errata_4 17 rfl rfl)
theorem dX0_errata_113 : decode cX0_errata 113 = .ok (.ifCond .lt 17, 3) := dk_155 0 17 (dk_at dksX0_errata_4 18 rfl rfl)
theorem dX0_errata_116 : decode cX0_errata 116 = .ok (.aload 5, 2) := dk_25 5 (dk_at dksX0_errata_4 21 rfl rfl)
theorem dX0_errata_118 : decode cX0_errata 118 = .ok (.iload 6, 2) := dk_21 6 (dk_at dksX0_errata_5 0 rfl rfl)
theorem dX0_errata_120 : decode cX0_errata 120 = .ok (.invokevirtual 173, 3) := dk_182 0 173 (dk_at dksX0_errata_5 2 rfl rfl)
theorem dX0_errata_123 : decode cX0_errata 123 = .ok (.ldc2_w 440, 3) := dk_20 1 184 (dk_at dksX0_errata_5 5 rfl rfl)
theorem dX0_errata_126 : decode cX0_errata 126 = .ok (.lcmp, 1) := dk_148 (dk_at dksX0_errata_5 8 rfl rfl)
theorem dX0_errata_127 : decode cX0_errata 127 = .ok (.ifCond .le 9, 3) := dk_158 0 9 (dk_at dksX0_errata_5 9 rfl rfl)
theorem dX0_errata_130 : decode cX0_errata 130 = .ok (.aload_n 0, 1) := dk_42 (dk_at dksX0_errata_5 12 rfl rfl)
theorem dX0_errata_131 : decode cX0_errata 131 = .ok (.iconst 5, 1) := dk_8 (dk_at dksX0_errata_5 13 rfl rfl)
theorem dX0_errata_132 : decode cX0_errata 132 = .ok (.invokevirtual 169, 3) := dk_182 0 169 (dk_at dksX0_errata_5 14 rfl rfl)
theorem dX0_errata_135 : decode cX0_errata 135 = .ok (.ireturn, 1) := dk_172 (dk_at dksX0_errata_5 17 rfl rfl)
theorem dX0_errata_136 : decode cX0_errata 136 = .ok (.iinc 6 1, 3) := dk_132 6 1 (dk_at dksX0_errata_5 18 rfl rfl)
theorem dX0_errata_139 : decode cX0_errata 139 = .ok (.goto (-41), 3) := dk_167 255 215 (dk_at dksX0_errata_5 21 rfl rfl)
theorem dX0_errata_142 : decode cX0_errata 142 = .ok (.iconst 0, 1) := dk_3 (dk_at dksX0_errata_6 0 rfl rfl)
theorem dX0_errata_143 : decode cX0_errata 143 = .ok (.istore 6, 2) := dk_54 6 (dk_at dksX0_errata_6 1 rfl rfl)
theorem dX0_errata_145 : decode cX0_errata 145 = .ok (.iload 6, 2) := dk_21 6 (dk_at dksX0_errata_6 3 rfl rfl)
theorem dX0_errata_147 : decode cX0_errata 147 = .ok (.iload_n 2, 1) := dk_28 (dk_at dksX0_errata_6 5 rfl rfl)
theorem dX0_errata_148 : decode cX0_errata 148 = .ok (.if_icmp .ge 23, 3) := dk_162 0 23 (dk_at dksX0_errata_6 6 rfl rfl)
theorem dX0_errata_151 : decode cX0_errata 151 = .ok (.aload_n 0, 1) := dk_42 (dk_at dksX0_errata_6 9 rfl rfl)
theorem dX0_errata_152 : decode cX0_errata 152 = .ok (.getfield 90, 3) := dk_180 0 90 (dk_at dksX0_errata_6 10 rfl rfl)
theorem dX0_errata_155 : decode cX0_errata 155 = .ok (.iload 6, 2) := dk_21 6 (dk_at dksX0_errata_6 13 rfl rfl)
theorem dX0_errata_157 : decode cX0_errata 157 = .ok (.aload 5, 2) := dk_25 5 (dk_at dksX0_errata_6 15 rfl rfl)
theorem dX0_errata_159 : decode cX0_errata 159 = .ok (.iload 6, 2) := dk_21 6 (dk_at dksX0_errata_6 17 rfl rfl)
theorem dX0_errata_161 : decode cX0_errata 161 = .ok (.invokevirtual 173, 3) := dk_182 0 173 (dk_at dksX0_errata_6 19 rfl rfl)
theorem dX0_errata_164 : decode cX0_errata 164 = .ok (.lastore, 1) := dk_80 (dk_at dksX0_errata_6 22 rfl rfl)
theorem dX0_errata_165 : decode cX0_errata 165 = .ok (.iinc 6 1, 3) := dk_132 6 1 (dk_at dksX0_errata_7 0 rfl rfl)
theorem dX0_errata_168 : decode cX0_errata 168 = .ok (.goto (-23), 3) := dk_167 255 233 (dk_at dksX0_errata_7 3 rfl rfl)
theorem dX0_errata_171 : decode cX0_errata 171 = .ok (.aload_n 0, 1) := dk_42 (dk_at dksX0_errata_7 6 rfl rfl)
theorem dX0_errata_172 : decode cX0_errata 172 = .ok (.iload_n 2, 1) := dk_28 (dk_at dksX0_errata_7 7 rfl rfl)
theorem dX0_errata_173 : decode cX0_errata 173 = .ok (.putfield 415, 3) := dk_181 1 159 (dk_at dksX0_errata_7 8 rfl rfl)
theorem dX0_errata_176 : decode cX0_errata 176 = .ok (.aload_n 0, 1) := dk_42 (dk_at dksX0_errata_7 11 rfl rfl)
theorem dX0_errata_177 : decode cX0_errata 177 = .ok (.iload_n 3, 1) := dk_29 (dk_at dksX0_errata_7 12 rfl rfl)
theorem dX0_errata_178 : decode cX0_errata 178 = .ok (.putfield 406, 3) := dk_181 1 150 (dk_at dksX0_errata_7 13 rfl rfl)
theorem dX0_errata_181 : decode cX0_errata 181 = .ok (.aload_n 0, 1) := dk_42 (dk_at dksX0_errata_7 16 rfl rfl)
theorem dX0_errata_182 : decode cX0_errata 182 = .ok (.iload 4, 2) := dk_21 4 (dk_at dksX0_errata_7 17 rfl rfl)
theorem dX0_errata_184 : decode cX0_errata 184 = .ok (.putfield 409, 3) := dk_181 1 153 (dk_at dksX0_errata_7 19 rfl rfl)
theorem dX0_errata_187 : decode cX0_errata 187 = .ok (.aload_n 0, 1) := dk_42 (dk_at dksX0_errata_7 22 rfl rfl)
theorem dX0_errata_188 : decode cX0_errata 188 = .ok (.bipush (-8), 2) := dk_16 248 (dk_at dksX0_errata_8 0 rfl rfl)
theorem dX0_errata_190 : decode cX0_errata 190 = .ok (.bipush (-8), 2) := dk_16 248 (dk_at dksX0_errata_8 2 rfl rfl)
theorem dX0_errata_192 : decode cX0_errata 192 = .ok (.invokevirtual 424, 3) := dk_182 1 168 (dk_at dksX0_errata_8 4 rfl rfl)
theorem dX0_errata_195 : decode cX0_errata 195 = .ok (.ifCond .eq 17, 3) := dk_153 0 17 (dk_at dksX0_errata_8 7 rfl rfl)
theorem dX0_errata_198 : decode cX0_errata 198 = .ok (.aload_n 0, 1) := dk_42 (dk_at dksX0_errata_8 10 rfl rfl)
theorem dX0_errata_199 : decode cX0_errata 199 = .ok (.iconst (-1), 1) := dk_2 (dk_at dksX0_errata_8 11 rfl rfl)
theorem dX0_errata_200 : decode cX0_errata 200 = .ok (.iconst 0, 1) := dk_3 (dk_at dksX0_errata_8 12 rfl rfl)
theorem dX0_errata_201 : decode cX0_errata 201 = .ok (.iconst (-1), 1) := dk_2 (dk_at dksX0_errata_8 13 rfl rfl)
theorem dX0_errata_202 : decode cX0_errata 202 = .ok (.iconst 0, 1) := dk_3 (dk_at dksX0_errata_8 14 rfl rfl)
theorem dX0_errata_203 : decode cX0_errata 203 = .ok (.invokevirtual 434, 3) := dk_182 1 178 (dk_at dksX0_errata_8 15 rfl rfl)
theorem dX0_errata_206 : decode cX0_errata 206 = .ok (.aload_n 0, 1) := dk_42 (dk_at dksX0_errata_8 18 rfl rfl)
theorem dX0_errata_207 : decode cX0_errata 207 = .ok (.iconst 0, 1) := dk_3 (dk_at dksX0_errata_8 19 rfl rfl)
theorem dX0_errata_208 : decode cX0_errata 208 = .ok (.invokevirtual 215, 3) := dk_182 0 215 (dk_at dksX0_errata_8 20 rfl rfl)
theorem dX0_errata_211 : decode cX0_errata 211 = .ok (.ireturn, 1) := dk_172 (dk_at dksX0_errata_8 23 rfl rfl)
theorem dX0_errata_212 : decode cX0_errata 212 = .ok (.aload_n 0, 1) := dk_42 (dk_at dksX0_errata_9 0 rfl rfl)
theorem dX0_errata_213 : decode cX0_errata 213 = .ok (.invokevirtual 442, 3) := dk_182 1 186 (dk_at dksX0_errata_9 1 rfl rfl)
theorem dX0_errata_216 : decode cX0_errata 216 = .ok (.ifCond .eq 9, 3) := dk_153 0 9 (dk_at dksX0_errata_9 4 rfl rfl)
theorem dX0_errata_219 : decode cX0_errata 219 = .ok (.aload_n 0, 1) := dk_42 (dk_at dksX0_errata_9 7 rfl rfl)
theorem dX0_errata_220 : decode cX0_errata 220 = .ok (.iconst 1, 1) := dk_4 (dk_at dksX0_errata_9 8 rfl rfl)
theorem dX0_errata_221 : decode cX0_errata 221 = .ok (.invokevirtual 215, 3) := dk_182 0 215 (dk_at dksX0_errata_9 9 rfl rfl)
theorem dX0_errata_224 : decode cX0_errata 224 = .ok (.ireturn, 1) := dk_172 (dk_at dksX0_errata_9 12 rfl rfl)
theorem dX0_errata_225 : decode cX0_errata 225 = .ok (.aload_n 0, 1) := dk_42 (dk_at dksX0_errata_9 13 rfl rfl)
theorem dX0_errata_226 : decode cX0_errata 226 = .ok (.invokevirtual 446, 3) := dk_182 1 190 (dk_at dksX0_errata_9 14 rfl rfl)
theorem dX0_errata_229 : decode cX0_errata 229 = .ok (.ifCond .eq 11, 3) := dk_153 0 11 (dk_at dksX0_errata_9 17 rfl rfl)
theorem dX0_errata_232 : decode cX0_errata 232 = .ok (.aload_n 0, 1) := dk_42 (dk_at dksX0_errata_9 20 rfl rfl)
theorem dX0_errata_233 : decode cX0_errata 233 = .ok (.iconst 2, 1) := dk_5 (dk_at dksX0_errata_9 21 rfl rfl)
theorem dX0_errata_234 : decode cX0_errata 234 = .ok (.invokevirtual 215, 3) := dk_182 0 215 (dk_at dksX0_errata_10 0 rfl rfl)
theorem dX0_errata_237 : decode cX0_errata 237 = .ok (.goto 9, 3) := dk_167 0 9 (dk_at dksX0_errata_10 3 rfl rfl)
theorem dX0_errata_240 : decode cX0_errata 240 = .ok (.aload_n 0, 1) := dk_42 (dk_at dksX0_errata_10 6 rfl rfl)
theorem dX0_errata_241 : decode cX0_errata 241 = .ok (.bipush 8, 2) := dk_16 8 (dk_at dksX0_errata_10 7 rfl rfl)
theorem dX0_errata_243 : decode cX0_errata 243 = .ok (.invokevirtual 169, 3) := dk_182 0 169 (dk_at dksX0_errata_10 9 rfl rfl)
theorem dX0_errata_246 : decode cX0_errata 246 = .ok (.ireturn, 1) := dk_172 (dk_at dksX0_errata_10 12 rfl rfl)
abbrev cX0_areAll : ByteArray := prog_1_method_52_code
def yX0_areAll : MethodName := ⟨RX0, "areAll", "(II)Z"⟩
def dkwX0_areAll_3 : List UInt8 := [167, 255, 188, 4, 172]
abbrev dktX0_areAll_3 : List UInt8 := dkwX0_areAll_3 ++ []
def dkwX0_areAll_2 : List UInt8 := [167, 0, 4, 3, 54, 4, 21, 4, 154, 0, 13, 42, 29, 182, 1, 162, 154, 0, 5, 3, 172, 132, 3, 1]
abbrev dktX0_areAll_2 : List UInt8 := dkwX0_areAll_2 ++ dktX0_areAll_3
def dkwX0_areAll_1 : List UInt8 := [180, 1, 150, 96, 164, 0, 18, 28, 29, 161, 0, 17, 28, 29, 42, 180, 1, 150, 96, 163, 0, 7, 4]
abbrev dktX0_areAll_1 : List UInt8 := dkwX0_areAll_1 ++ dktX0_areAll_2
def dkwX0_areAll_0 : List UInt8 := [3, 62, 29, 42, 180, 1, 150, 96, 42, 180, 1, 159, 162, 0, 61, 27, 29, 161, 0, 13, 27, 29, 42]
abbrev dktX0_areAll_0 : List UInt8 := dkwX0_areAll_0 ++ dktX0_areAll_1
theorem dksX0_areAll_0 : cX0_areAll.data.toList.drop 0 = dktX0_areAll_0 := by decide +kernel
theorem dksX0_areAll_1 : cX0_areAll.data.toList.drop 23 = dktX0_areAll_1 := dk_seg dksX0_areAll_0 23 rfl rfl
theorem dksX0_areAll_2 : cX0_areAll.data.toList.drop 46 = dktX0_areAll_2 := dk_seg dksX0_areAll_1 23 rfl rfl
theorem dksX0_areAll_3 : cX0_areAll.data.toList.drop 70 = dktX0_areAll_3 := dk_seg dksX0_areAll_2 24 rfl rfl
theorem dX0_areAll_0 : decode cX0_areAll 0 = .ok (.iconst 0, 1) := dk_3 (dk_at dksX0_areAll_0 0 rfl rfl)
theorem dX0_areAll_1 : decode cX0_areAll 1 = .ok (.istore_n 3, 1) := dk_62 (dk_at dksX0_areAll_0 1 rfl rfl)
theorem dX0_areAll_2 : decode cX0_areAll 2 = .ok (.iload_n 3, 1) := dk_29 (dk_at dksX0_areAll_0 2 rfl rfl)
theorem dX0_areAll_3 : decode cX0_areAll 3 = .ok (.aload_n 0, 1) := dk_42 (dk_at dksX0_areAll_0 3 rfl rfl)
theorem dX0_areAll_4 : decode cX0_areAll 4 = .ok (.getfield 406, 3) := dk_180 1 150 (dk_at dksX0_areAll_0 4 rfl rfl)
theorem dX0_areAll_7 : decode cX0_areAll 7 = .ok (.iadd, 1) := dk_96 (dk_at dksX0_areAll_0 7 rfl rfl)
theorem dX0_areAll_8 : decode cX0_areAll 8 = .ok (.aload_n 0, 1) := dk_42 (dk_at dksX0_areAll_0 8 rfl rfl)
theorem dX0_areAll_9 : decode cX0_areAll 9 = .ok (.getfield 415, 3) := dk_180 1 159 (dk_at dksX0_areAll_0 9 rfl rfl)
theorem dX0_areAll_12 : decode cX0_areAll 12 = .ok (.if_icmp .ge 61, 3) := dk_162 0 61 (dk_at dksX0_areAll_0 12 rfl rfl)
theorem dX0_areAll_15 : decode cX0_areAll 15 = .ok (.iload_n 1, 1) := dk_27 (dk_at dksX0_areAll_0 15 rfl rfl)
theorem dX0_areAll_16 : decode cX0_areAll 16 = .ok (.iload_n 3, 1) := dk_29 (dk_at dksX0_areAll_0 16 rfl rfl)
theorem dX0_areAll_17 : decode cX0_areAll 17 = .ok (.if_icmp .lt 13, 3) := dk_161 0 13 (dk_at dksX0_areAll_0 17 rfl rfl)
theorem dX0_areAll_20 : decode cX0_areAll 20 = .ok (.iload_n 1, 1) := dk_27 (dk_at dksX0_areAll_0 20 rfl rfl)
theorem dX0_areAll_21 : decode cX0_areAll 21 = .ok (.iload_n 3, 1) := dk_29 (dk_at dksX0_areAll_0 21 rfl rfl)
theorem dX0_areAll_22 : decode cX0_areAll 22 = .ok (.aload_n 0, 1) := dk_42 (dk_at dksX0_areAll_0 22 rfl rfl)
theorem dX0_areAll_23 : decode cX0_areAll 23 = .ok (.getfield 406, 3) := dk_180 1 150 (dk_at dksX0_areAll_1 0 rfl rfl)
theorem dX0_areAll_26 : decode cX0_areAll 26 = .ok (.iadd, 1) := dk_96 (dk_at dksX0_areAll_1 3 rfl rfl)
theorem dX0_areAll_27 : decode cX0_areAll 27 = .ok (.if_icmp .le 18, 3) := dk_164 0 18 (dk_at dksX0_areAll_1 4 rfl rfl)
theorem dX0_areAll_30 : decode cX0_areAll 30 = .ok (.iload_n 2, 1) := dk_28 (dk_at dksX0_areAll_1 7 rfl rfl)
theorem dX0_areAll_31 : decode cX0_areAll 31 = .ok (.iload_n 3, 1) := dk_29 (dk_at dksX0_areAll_1 8 rfl rfl)
theorem dX0_areAll_32 : decode cX0_areAll 32 = .ok (.if_icmp .lt 17, 3) := dk_161 0 17 (dk_at dksX0_areAll_1 9 rfl rfl)
theorem dX0_areAll_35 : decode cX0_areAll 35 = .ok (.iload_n 2, 1) := dk_28 (dk_at dksX0_areAll_1 12 rfl rfl)
theorem dX0_areAll_36 : decode cX0_areAll 36 = .ok (.iload_n 3, 1) := dk_29 (dk_at dksX0_areAll_1 13 rfl rfl)
theorem dX0_areAll_37 : decode cX0_areAll 37 = .ok (.aload_n 0, 1) := dk_42 (dk_at dksX0_areAll_1 14 rfl rfl)
theorem dX0_areAll_38 : decode cX0_areAll 38 = .ok (.getfield 406, 3) := dk_180 1 150 (dk_at dksX0_areAll_1 15 rfl rfl)
theorem dX0_areAll_41 : decode cX0_areAll 41 = .ok (.iadd, 1) := dk_96 (dk_at dksX0_areAll_1 18 rfl rfl)
theorem dX0_areAll_42 : decode cX0_areAll 42 = .ok (.if_icmp .gt 7, 3) := dk_163 0 7 (dk_at dksX0_areAll_1 19 rfl rfl)
theorem dX0_areAll_45 : decode cX0_areAll 45 = .ok (.iconst 1, 1) := dk_4 (dk_at dksX0_areAll_1 22 rfl rfl)
theorem dX0_areAll_46 : decode cX0_areAll 46 = .ok (.goto 4, 3) := dk_167 0 4 (dk_at dksX0_areAll_2 0 rfl rfl)
theorem dX0_areAll_49 : decode cX0_areAll 49 = .ok (.iconst 0, 1) := dk_3 (dk_at dksX0_areAll_2 3 rfl rfl)
theorem dX0_areAll_50 : decode cX0_areAll 50 = .ok (.istore 4, 2) := dk_54 4 (dk_at dksX0_areAll_2 4 rfl rfl)
theorem dX0_areAll_52 : decode cX0_areAll 52 = .ok (.iload 4, 2) := dk_21 4 (dk_at dksX0_areAll_2 6 rfl rfl)
theorem dX0_areAll_54 : decode cX0_areAll 54 = .ok (.ifCond .ne 13, 3) := dk_154 0 13 (dk_at dksX0_areAll_2 8 rfl rfl)
theorem dX0_areAll_57 : decode cX0_areAll 57 = .ok (.aload_n 0, 1) := dk_42 (dk_at dksX0_areAll_2 11 rfl rfl)
theorem dX0_areAll_58 : decode cX0_areAll 58 = .ok (.iload_n 3, 1) := dk_29 (dk_at dksX0_areAll_2 12 rfl rfl)
theorem dX0_areAll_59 : decode cX0_areAll 59 = .ok (.invokevirtual 418, 3) := dk_182 1 162 (dk_at dksX0_areAll_2 13 rfl rfl)
theorem dX0_areAll_62 : decode cX0_areAll 62 = .ok (.ifCond .ne 5, 3) := dk_154 0 5 (dk_at dksX0_areAll_2 16 rfl rfl)
theorem dX0_areAll_65 : decode cX0_areAll 65 = .ok (.iconst 0, 1) := dk_3 (dk_at dksX0_areAll_2 19 rfl rfl)
theorem dX0_areAll_66 : decode cX0_areAll 66 = .ok (.ireturn, 1) := dk_172 (dk_at dksX0_areAll_2 20 rfl rfl)
theorem dX0_areAll_67 : decode cX0_areAll 67 = .ok (.iinc 3 1, 3) := dk_132 3 1 (dk_at dksX0_areAll_2 21 rfl rfl)
theorem dX0_areAll_70 : decode cX0_areAll 70 = .ok (.goto (-68), 3) := dk_167 255 188 (dk_at dksX0_areAll_3 0 rfl rfl)
theorem dX0_areAll_73 : decode cX0_areAll 73 = .ok (.iconst 1, 1) := dk_4 (dk_at dksX0_areAll_3 3 rfl rfl)
theorem dX0_areAll_74 : decode cX0_areAll 74 = .ok (.ireturn, 1) := dk_172 (dk_at dksX0_areAll_3 4 rfl rfl)
abbrev cX0_isSmoothAt : ByteArray := prog_1_method_50_code
def yX0_isSmoothAt : MethodName := ⟨RX0, "isSmoothAt", "(I)Z"⟩
def dkwX0_isSmoothAt_4 : List UInt8 := [157, 0, 7, 4, 167, 0, 4, 3, 172]
abbrev dktX0_isSmoothAt_4 : List UInt8 := dkwX0_isSmoothAt_4 ++ []
def dkwX0_isSmoothAt_3 : List UInt8 := [21, 6, 4, 96, 133, 109, 55, 4, 132, 6, 1, 167, 255, 182, 32, 184, 1, 115, 42, 180, 1, 153, 133, 148]
abbrev dktX0_isSmoothAt_3 : List UInt8 := dkwX0_isSmoothAt_3 ++ dktX0_isSmoothAt_4
def dkwX0_isSmoothAt_2 : List UInt8 := [42, 180, 0, 90, 27, 21, 6, 96, 47, 105, 97, 65, 22, 4, 42, 180, 1, 150, 21, 6, 100, 133, 105]
abbrev dktX0_isSmoothAt_2 : List UInt8 := dkwX0_isSmoothAt_2 ++ dktX0_isSmoothAt_3
def dkwX0_isSmoothAt_1 : List UInt8 := [100, 5, 112, 154, 0, 18, 22, 4, 42, 180, 0, 90, 27, 21, 6, 96, 47, 105, 167, 0, 16, 22, 4, 117]
abbrev dktX0_isSmoothAt_1 : List UInt8 := dkwX0_isSmoothAt_1 ++ dktX0_isSmoothAt_2
def dkwX0_isSmoothAt_0 : List UInt8 := [9, 65, 10, 55, 4, 3, 54, 6, 21, 6, 42, 180, 1, 150, 163, 0, 71, 32, 42, 180, 1, 150, 21, 6]
abbrev dktX0_isSmoothAt_0 : List UInt8 := dkwX0_isSmoothAt_0 ++ dktX0_isSmoothAt_1
theorem dksX0_isSmoothAt_0 : cX0_isSmoothAt.data.toList.drop 0 = dktX0_isSmoothAt_0 := by decide +kernel
theorem dksX0_isSmoothAt_1 : cX0_isSmoothAt.data.toList.drop 24 = dktX0_isSmoothAt_1 := dk_seg dksX0_isSmoothAt_0 24 rfl rfl
theorem dksX0_isSmoothAt_2 : cX0_isSmoothAt.data.toList.drop 48 = dktX0_isSmoothAt_2 := dk_seg dksX0_isSmoothAt_1 24 rfl rfl
theorem dksX0_isSmoothAt_3 : cX0_isSmoothAt.data.toList.drop 71 = dktX0_isSmoothAt_3 := dk_seg dksX0_isSmoothAt_2 23 rfl rfl
theorem dksX0_isSmoothAt_4 : cX0_isSmoothAt.data.toList.drop 95 = dktX0_isSmoothAt_4 := dk_seg dksX0_isSmoothAt_3 24 rfl rfl
theorem dX0_isSmoothAt_0 : decode cX0_isSmoothAt 0 = .ok (.lconst 0, 1) := dk_9 (dk_at dksX0_isSmoothAt_0 0 rfl rfl)
theorem dX0_isSmoothAt_1 : decode cX0_isSmoothAt 1 = .ok (.lstore_n 2, 1) := dk_65 (dk_at dksX0_isSmoothAt_0 1 rfl rfl)
theorem dX0_isSmoothAt_2 : decode cX0_isSmoothAt 2 = .ok (.lconst 1, 1) := dk_10 (dk_at dksX0_isSmoothAt_0 2 rfl rfl)
theorem dX0_isSmoothAt_3 : decode cX0_isSmoothAt 3 = .ok (.lstore 4, 2) := dk_55 4 (dk_at dksX0_isSmoothAt_0 3 rfl rfl)
theorem dX0_isSmoothAt_5 : decode cX0_isSmoothAt 5 = .ok (.iconst 0, 1) := dk_3 (dk_at dksX0_isSmoothAt_0 5 rfl rfl)
theorem dX0_isSmoothAt_6 : decode cX0_isSmoothAt 6 = .ok (.istore 6, 2) := dk_54 6 (dk_at dksX0_isSmoothAt_0 6 rfl rfl)
theorem dX0_isSmoothAt_8 : decode cX0_isSmoothAt 8 = .ok (.iload 6, 2) := dk_21 6 (dk_at dksX0_isSmoothAt_0 8 rfl rfl)
theorem dX0_isSmoothAt_10 : decode cX0_isSmoothAt 10 = .ok (.aload_n 0, 1) := dk_42 (dk_at dksX0_isSmoothAt_0 10 rfl rfl)
theorem dX0_isSmoothAt_11 : decode cX0_isSmoothAt 11 = .ok (.getfield 406, 3) := dk_180 1 150 (dk_at dksX0_isSmoothAt_0 11 rfl rfl)
theorem dX0_isSmoothAt_14 : decode cX0_isSmoothAt 14 = .ok (.if_icmp .gt 71, 3) := dk_163 0 71 (dk_at dksX0_isSmoothAt_0 14 rfl rfl)
theorem dX0_isSmoothAt_17 : decode cX0_isSmoothAt 17 = .ok (.lload_n 2, 1) := dk_32 (dk_at dksX0_isSmoothAt_0 17 rfl rfl)
theorem dX0_isSmoothAt_18 : decode cX0_isSmoothAt 18 = .ok (.aload_n 0, 1) := dk_42 (dk_at dksX0_isSmoothAt_0 18 rfl rfl)
theorem dX0_isSmoothAt_19 : decode cX0_isSmoothAt 19 = .ok (.getfield 406, 3) := dk_180 1 150 (dk_at dksX0_isSmoothAt_0 19 rfl rfl)
theorem dX0_isSmoothAt_22 : decode cX0_isSmoothAt 22 = .ok (.iload 6, 2) := dk_21 6 (dk_at dksX0_isSmoothAt_0 22 rfl rfl)
theorem dX0_isSmoothAt_24 : decode cX0_isSmoothAt 24 = .ok (.isub, 1) := dk_100 (dk_at dksX0_isSmoothAt_1 0 rfl rfl)
theorem dX0_isSmoothAt_25 : decode cX0_isSmoothAt 25 = .ok (.iconst 2, 1) := dk_5 (dk_at dksX0_isSmoothAt_1 1 rfl rfl)
theorem dX0_isSmoothAt_26 : decode cX0_isSmoothAt 26 = .ok (.irem, 1) := dk_112 (dk_at dksX0_isSmoothAt_1 2 rfl rfl)
theorem dX0_isSmoothAt_27 : decode cX0_isSmoothAt 27 = .ok (.ifCond .ne 18, 3) := dk_154 0 18 (dk_at dksX0_isSmoothAt_1 3 rfl rfl)
theorem dX0_isSmoothAt_30 : decode cX0_isSmoothAt 30 = .ok (.lload 4, 2) := dk_22 4 (dk_at dksX0_isSmoothAt_1 6 rfl rfl)
theorem dX0_isSmoothAt_32 : decode cX0_isSmoothAt 32 = .ok (.aload_n 0, 1) := dk_42 (dk_at dksX0_isSmoothAt_1 8 rfl rfl)
theorem dX0_isSmoothAt_33 : decode cX0_isSmoothAt 33 = .ok (.getfield 90, 3) := dk_180 0 90 (dk_at dksX0_isSmoothAt_1 9 rfl rfl)
theorem dX0_isSmoothAt_36 : decode cX0_isSmoothAt 36 = .ok (.iload_n 1, 1) := dk_27 (dk_at dksX0_isSmoothAt_1 12 rfl rfl)
theorem dX0_isSmoothAt_37 : decode cX0_isSmoothAt 37 = .ok (.iload 6, 2) := dk_21 6 (dk_at dksX0_isSmoothAt_1 13 rfl rfl)
theorem dX0_isSmoothAt_39 : decode cX0_isSmoothAt 39 = .ok (.iadd, 1) := dk_96 (dk_at dksX0_isSmoothAt_1 15 rfl rfl)
theorem dX0_isSmoothAt_40 : decode cX0_isSmoothAt 40 = .ok (.laload, 1) := dk_47 (dk_at dksX0_isSmoothAt_1 16 rfl rfl)
theorem dX0_isSmoothAt_41 : decode cX0_isSmoothAt 41 = .ok (.lmul, 1) := dk_105 (dk_at dksX0_isSmoothAt_1 17 rfl rfl)
theorem dX0_isSmoothAt_42 : decode cX0_isSmoothAt 42 = .ok (.goto 16, 3) := dk_167 0 16 (dk_at dksX0_isSmoothAt_1 18 rfl rfl)
theorem dX0_isSmoothAt_45 : decode cX0_isSmoothAt 45 = .ok (.lload 4, 2) := dk_22 4 (dk_at dksX0_isSmoothAt_1 21 rfl rfl)
theorem dX0_isSmoothAt_47 : decode cX0_isSmoothAt 47 = .ok (.lneg, 1) := dk_117 (dk_at dksX0_isSmoothAt_1 23 rfl rfl)
theorem dX0_isSmoothAt_48 : decode cX0_isSmoothAt 48 = .ok (.aload_n 0, 1) := dk_42 (dk_at dksX0_isSmoothAt_2 0 rfl rfl)
theorem dX0_isSmoothAt_49 : decode cX0_isSmoothAt 49 = .ok (.getfield 90, 3) := dk_180 0 90 (dk_at dksX0_isSmoothAt_2 1 rfl rfl)
theorem dX0_isSmoothAt_52 : decode cX0_isSmoothAt 52 = .ok (.iload_n 1, 1) := dk_27 (dk_at dksX0_isSmoothAt_2 4 rfl rfl)
theorem dX0_isSmoothAt_53 : decode cX0_isSmoothAt 53 = .ok (.iload 6, 2) := dk_21 6 (dk_at dksX0_isSmoothAt_2 5 rfl rfl)
theorem dX0_isSmoothAt_55 : decode cX0_isSmoothAt 55 = .ok (.iadd, 1) := dk_96 (dk_at dksX0_isSmoothAt_2 7 rfl rfl)
theorem dX0_isSmoothAt_56 : decode cX0_isSmoothAt 56 = .ok (.laload, 1) := dk_47 (dk_at dksX0_isSmoothAt_2 8 rfl rfl)
theorem dX0_isSmoothAt_57 : decode cX0_isSmoothAt 57 = .ok (.lmul, 1) := dk_105 (dk_at dksX0_isSmoothAt_2 9 rfl rfl)
theorem dX0_isSmoothAt_58 : decode cX0_isSmoothAt 58 = .ok (.ladd, 1) := dk_97 (dk_at dksX0_isSmoothAt_2 10 rfl rfl)
theorem dX0_isSmoothAt_59 : decode cX0_isSmoothAt 59 = .ok (.lstore_n 2, 1) := dk_65 (dk_at dksX0_isSmoothAt_2 11 rfl rfl)
theorem dX0_isSmoothAt_60 : decode cX0_isSmoothAt 60 = .ok (.lload 4, 2) := dk_22 4 (dk_at dksX0_isSmoothAt_2 12 rfl rfl)
theorem dX0_isSmoothAt_62 : decode cX0_isSmoothAt 62 = .ok (.aload_n 0, 1) := dk_42 (dk_at dksX0_isSmoothAt_2 14 rfl rfl)
theorem dX0_isSmoothAt_63 : decode cX0_isSmoothAt 63 = .ok (.getfield 406, 3) := dk_180 1 150 (dk_at dksX0_isSmoothAt_2 15 rfl rfl)
theorem dX0_isSmoothAt_66 : decode cX0_isSmoothAt 66 = .ok (.iload 6, 2) := dk_21 6 (dk_at dksX0_isSmoothAt_2 18 rfl rfl)
theorem dX0_isSmoothAt_68 : decode cX0_isSmoothAt 68 = .ok (.isub, 1) := dk_100 (dk_at dksX0_isSmoothAt_2 20 rfl rfl)
theorem dX0_isSmoothAt_69 : decode cX0_isSmoothAt 69 = .ok (.i2l, 1) := dk_133 (dk_at dksX0_isSmoothAt_2 21 rfl rfl)
theorem dX0_isSmoothAt_70 : decode cX0_isSmoothAt 70 = .ok (.lmul, 1) := dk_105 (dk_at dksX0_isSmoothAt_2 22 rfl rfl)
theorem dX0_isSmoothAt_71 : decode cX0_isSmoothAt 71 = .ok (.iload 6, 2) := dk_21 6 (dk_at dksX0_isSmoothAt_3 0 rfl rfl)
theorem dX0_isSmoothAt_73 : decode cX0_isSmoothAt 73 = .ok (.iconst 1, 1) := dk_4 (dk_at dksX0_isSmoothAt_3 2 rfl rfl)
theorem dX0_isSmoothAt_74 : decode cX0_isSmoothAt 74 = .ok (.iadd, 1) := dk_96 (dk_at dksX0_isSmoothAt_3 3 rfl rfl)
theorem dX0_isSmoothAt_75 : decode cX0_isSmoothAt 75 = .ok (.i2l, 1) := dk_133 (dk_at dksX0_isSmoothAt_3 4 rfl rfl)
theorem dX0_isSmoothAt_76 : decode cX0_isSmoothAt 76 = .ok (.ldiv, 1) := dk_109 (dk_at dksX0_isSmoothAt_3 5 rfl rfl)
theorem dX0_isSmoothAt_77 : decode cX0_isSmoothAt 77 = .ok (.lstore 4, 2) := dk_55 4 (dk_at dksX0_isSmoothAt_3 6 rfl rfl)
theorem dX0_isSmoothAt_79 : decode cX0_isSmoothAt 79 = .ok (.iinc 6 1, 3) := dk_132 6 1 (dk_at dksX0_isSmoothAt_3 8 rfl rfl)
theorem dX0_isSmoothAt_82 : decode cX0_isSmoothAt 82 = .ok (.goto (-74), 3) := dk_167 255 182 (dk_at dksX0_isSmoothAt_3 11 rfl rfl)
theorem dX0_isSmoothAt_85 : decode cX0_isSmoothAt 85 = .ok (.lload_n 2, 1) := dk_32 (dk_at dksX0_isSmoothAt_3 14 rfl rfl)
theorem dX0_isSmoothAt_86 : decode cX0_isSmoothAt 86 = .ok (.invokestatic 371, 3) := dk_184 1 115 (dk_at dksX0_isSmoothAt_3 15 rfl rfl)
theorem dX0_isSmoothAt_89 : decode cX0_isSmoothAt 89 = .ok (.aload_n 0, 1) := dk_42 (dk_at dksX0_isSmoothAt_3 18 rfl rfl)
theorem dX0_isSmoothAt_90 : decode cX0_isSmoothAt 90 = .ok (.getfield 409, 3) := dk_180 1 153 (dk_at dksX0_isSmoothAt_3 19 rfl rfl)
theorem dX0_isSmoothAt_93 : decode cX0_isSmoothAt 93 = .ok (.i2l, 1) := dk_133 (dk_at dksX0_isSmoothAt_3 22 rfl rfl)
theorem dX0_isSmoothAt_94 : decode cX0_isSmoothAt 94 = .ok (.lcmp, 1) := dk_148 (dk_at dksX0_isSmoothAt_3 23 rfl rfl)
theorem dX0_isSmoothAt_95 : decode cX0_isSmoothAt 95 = .ok (.ifCond .gt 7, 3) := dk_157 0 7 (dk_at dksX0_isSmoothAt_4 0 rfl rfl)
theorem dX0_isSmoothAt_98 : decode cX0_isSmoothAt 98 = .ok (.iconst 1, 1) := dk_4 (dk_at dksX0_isSmoothAt_4 3 rfl rfl)
theorem dX0_isSmoothAt_99 : decode cX0_isSmoothAt 99 = .ok (.goto 4, 3) := dk_167 0 4 (dk_at dksX0_isSmoothAt_4 4 rfl rfl)
theorem dX0_isSmoothAt_102 : decode cX0_isSmoothAt 102 = .ok (.iconst 0, 1) := dk_3 (dk_at dksX0_isSmoothAt_4 7 rfl rfl)
theorem dX0_isSmoothAt_103 : decode cX0_isSmoothAt 103 = .ok (.ireturn, 1) := dk_172 (dk_at dksX0_isSmoothAt_4 8 rfl rfl)
abbrev cX0_found : ByteArray := prog_1_method_55_code
def yX0_found : MethodName := ⟨RX0, "found", "(IIII)V"⟩
def dkwX0_found_1 : List UInt8 := [180, 0, 102, 4, 21, 4, 79, 177]
abbrev dktX0_found_1 : List UInt8 := dkwX0_found_1 ++ []
def dkwX0_found_0 : List UInt8 := [42, 180, 0, 99, 3, 27, 79, 42, 180, 0, 102, 3, 28, 79, 42, 180, 0, 99, 4, 29, 79, 42]
abbrev dktX0_found_0 : List UInt8 := dkwX0_found_0 ++ dktX0_found_1
theorem dksX0_found_0 : cX0_found.data.toList.drop 0 = dktX0_found_0 := by decide +kernel
theorem dksX0_found_1 : cX0_found.data.toList.drop 22 = dktX0_found_1 := dk_seg dksX0_found_0 22 rfl rfl
theorem dX0_found_0 : decode cX0_found 0 = .ok (.aload_n 0, 1) := dk_42 (dk_at dksX0_found_0 0 rfl rfl)
theorem dX0_found_1 : decode cX0_found 1 = .ok (.getfield 99, 3) := dk_180 0 99 (dk_at dksX0_found_0 1 rfl rfl)
theorem dX0_found_4 : decode cX0_found 4 = .ok (.iconst 0, 1) := dk_3 (dk_at dksX0_found_0 4 rfl rfl)
theorem dX0_found_5 : decode cX0_found 5 = .ok (.iload_n 1, 1) := dk_27 (dk_at dksX0_found_0 5 rfl rfl)
theorem dX0_found_6 : decode cX0_found 6 = .ok (.iastore, 1) := dk_79 (dk_at dksX0_found_0 6 rfl rfl)
theorem dX0_found_7 : decode cX0_found 7 = .ok (.aload_n 0, 1) := dk_42 (dk_at dksX0_found_0 7 rfl rfl)
theorem dX0_found_8 : decode cX0_found 8 = .ok (.getfield 102, 3) := dk_180 0 102 (dk_at dksX0_found_0 8 rfl rfl)
theorem dX0_found_11 : decode cX0_found 11 = .ok (.iconst 0, 1) := dk_3 (dk_at dksX0_found_0 11 rfl rfl)
theorem dX0_found_12 : decode cX0_found 12 = .ok (.iload_n 2, 1) := dk_28 (dk_at dksX0_found_0 12 rfl rfl)
theorem dX0_found_13 : decode cX0_found 13 = .ok (.iastore, 1) := dk_79 (dk_at dksX0_found_0 13 rfl rfl)
theorem dX0_found_14 : decode cX0_found 14 = .ok (.aload_n 0, 1) := dk_42 (dk_at dksX0_found_0 14 rfl rfl)
theorem dX0_found_15 : decode cX0_found 15 = .ok (.getfield 99, 3) := dk_180 0 99 (dk_at dksX0_found_0 15 rfl rfl)
theorem dX0_found_18 : decode cX0_found 18 = .ok (.iconst 1, 1) := dk_4 (dk_at dksX0_found_0 18 rfl rfl)
theorem dX0_found_19 : decode cX0_found 19 = .ok (.iload_n 3, 1) := dk_29 (dk_at dksX0_found_0 19 rfl rfl)
theorem dX0_found_20 : decode cX0_found 20 = .ok (.iastore, 1) := dk_79 (dk_at dksX0_found_0 20 rfl rfl)
theorem dX0_found_21 : decode cX0_found 21 = .ok (.aload_n 0, 1) := dk_42 (dk_at dksX0_found_0 21 rfl rfl)
theorem dX0_found_22 : decode cX0_found 22 = .ok (.getfield 102, 3) := dk_180 0 102 (dk_at dksX0_found_1 0 rfl rfl)
theorem dX0_found_25 : decode cX0_found 25 = .ok (.iconst 1, 1) := dk_4 (dk_at dksX0_found_1 3 rfl rfl)
theorem dX0_found_26 : decode cX0_found 26 = .ok (.iload 4, 2) := dk_21 4 (dk_at dksX0_found_1 4 rfl rfl)
theorem dX0_found_28 : decode cX0_found 28 = .ok (.iastore, 1) := dk_79 (dk_at dksX0_found_1 6 rfl rfl)
theorem dX0_found_29 : decode cX0_found 29 = .ok (.return_, 1) := dk_177 (dk_at dksX0_found_1 7 rfl rfl)
abbrev cX0_oneRight : ByteArray := prog_1_method_56_code
def yX0_oneRight : MethodName := ⟨RX0, "oneRight", "()Z"⟩
def dkwX0_oneRight_4 : List UInt8 := [132, 3, 1, 167, 255, 200, 42, 180, 0, 90, 27, 28, 133, 80, 132, 1, 1, 167, 255, 150, 3, 172]
abbrev dktX0_oneRight_4 : List UInt8 := dkwX0_oneRight_4 ++ []
def dkwX0_oneRight_3 : List UInt8 := [154, 0, 6, 167, 0, 20, 42, 27, 42, 180, 0, 93, 3, 50, 29, 46, 2, 3, 182, 1, 178, 4, 172]
abbrev dktX0_oneRight_3 : List UInt8 := dkwX0_oneRight_3 ++ dktX0_oneRight_4
def dkwX0_oneRight_2 : List UInt8 := [162, 0, 52, 42, 180, 0, 90, 27, 42, 180, 0, 93, 3, 50, 29, 46, 133, 80, 42, 27, 182, 1, 175]
abbrev dktX0_oneRight_2 : List UInt8 := dkwX0_oneRight_2 ++ dktX0_oneRight_3
def dkwX0_oneRight_1 : List UInt8 := [180, 0, 90, 27, 47, 136, 61, 42, 3, 28, 182, 1, 172, 3, 62, 29, 42, 180, 0, 96, 3, 46]
abbrev dktX0_oneRight_1 : List UInt8 := dkwX0_oneRight_1 ++ dktX0_oneRight_2
def dkwX0_oneRight_0 : List UInt8 := [3, 60, 27, 42, 180, 1, 159, 162, 0, 104, 42, 27, 27, 182, 1, 168, 154, 0, 6, 167, 0, 86, 42]
abbrev dktX0_oneRight_0 : List UInt8 := dkwX0_oneRight_0 ++ dktX0_oneRight_1
theorem dksX0_oneRight_0 : cX0_oneRight.data.toList.drop 0 = dktX0_oneRight_0 := by decide +kernel
theorem dksX0_oneRight_1 : cX0_oneRight.data.toList.drop 23 = dktX0_oneRight_1 := dk_seg dksX0_oneRight_0 23 rfl rfl
theorem dksX0_oneRight_2 : cX0_oneRight.data.toList.drop 45 = dktX0_oneRight_2 := dk_seg dksX0_oneRight_1 22 rfl rfl
theorem dksX0_oneRight_3 : cX0_oneRight.data.toList.drop 68 = dktX0_oneRight_3 := dk_seg dksX0_oneRight_2 23 rfl rfl
theorem dksX0_oneRight_4 : cX0_oneRight.data.toList.drop 91 = dktX0_oneRight_4 := dk_seg dksX0_oneRight_3 23 rfl rfl
theorem dX0_oneRight_0 : decode cX0_oneRight 0 = .ok (.iconst 0, 1) := dk_3 (dk_at dksX0_oneRight_0 0 rfl rfl)
theorem dX0_oneRight_1 : decode cX0_oneRight 1 = .ok (.istore_n 1, 1) := dk_60 (dk_at dksX0_oneRight_0 1 rfl rfl)
theorem dX0_oneRight_2 : decode cX0_oneRight 2 = .ok (.iload_n 1, 1) := dk_27 (dk_at dksX0_oneRight_0 2 rfl rfl)
theorem dX0_oneRight_3 : decode cX0_oneRight 3 = .ok (.aload_n 0, 1) := dk_42 (dk_at dksX0_oneRight_0 3 rfl rfl)
theorem dX0_oneRight_4 : decode cX0_oneRight 4 = .ok (.getfield 415, 3) := dk_180 1 159 (dk_at dksX0_oneRight_0 4 rfl rfl)
theorem dX0_oneRight_7 : decode cX0_oneRight 7 = .ok (.if_icmp .ge 104, 3) := dk_162 0 104 (dk_at dksX0_oneRight_0 7 rfl rfl)
theorem dX0_oneRight_10 : decode cX0_oneRight 10 = .ok (.aload_n 0, 1) := dk_42 (dk_at dksX0_oneRight_0 10 rfl rfl)
theorem dX0_oneRight_11 : decode cX0_oneRight 11 = .ok (.iload_n 1, 1) := dk_27 (dk_at dksX0_oneRight_0 11 rfl rfl)
theorem dX0_oneRight_12 : decode cX0_oneRight 12 = .ok (.iload_n 1, 1) := dk_27 (dk_at dksX0_oneRight_0 12 rfl rfl)
theorem dX0_oneRight_13 : decode cX0_oneRight 13 = .ok (.invokevirtual 424, 3) := dk_182 1 168 (dk_at dksX0_oneRight_0 13 rfl rfl)
theorem dX0_oneRight_16 : decode cX0_oneRight 16 = .ok (.ifCond .ne 6, 3) := dk_154 0 6 (dk_at dksX0_oneRight_0 16 rfl rfl)
theorem dX0_oneRight_19 : decode cX0_oneRight 19 = .ok (.goto 86, 3) := dk_167 0 86 (dk_at dksX0_oneRight_0 19 rfl rfl)
theorem dX0_oneRight_22 : decode cX0_oneRight 22 = .ok (.aload_n 0, 1) := dk_42 (dk_at dksX0_oneRight_0 22 rfl rfl)
theorem dX0_oneRight_23 : decode cX0_oneRight 23 = .ok (.getfield 90, 3) := dk_180 0 90 (dk_at dksX0_oneRight_1 0 rfl rfl)
theorem dX0_oneRight_26 : decode cX0_oneRight 26 = .ok (.iload_n 1, 1) := dk_27 (dk_at dksX0_oneRight_1 3 rfl rfl)
theorem dX0_oneRight_27 : decode cX0_oneRight 27 = .ok (.laload, 1) := dk_47 (dk_at dksX0_oneRight_1 4 rfl rfl)
theorem dX0_oneRight_28 : decode cX0_oneRight 28 = .ok (.l2i, 1) := dk_136 (dk_at dksX0_oneRight_1 5 rfl rfl)
theorem dX0_oneRight_29 : decode cX0_oneRight 29 = .ok (.istore_n 2, 1) := dk_61 (dk_at dksX0_oneRight_1 6 rfl rfl)
theorem dX0_oneRight_30 : decode cX0_oneRight 30 = .ok (.aload_n 0, 1) := dk_42 (dk_at dksX0_oneRight_1 7 rfl rfl)
theorem dX0_oneRight_31 : decode cX0_oneRight 31 = .ok (.iconst 0, 1) := dk_3 (dk_at dksX0_oneRight_1 8 rfl rfl)
theorem dX0_oneRight_32 : decode cX0_oneRight 32 = .ok (.iload_n 2, 1) := dk_28 (dk_at dksX0_oneRight_1 9 rfl rfl)
theorem dX0_oneRight_33 : decode cX0_oneRight 33 = .ok (.invokevirtual 428, 3) := dk_182 1 172 (dk_at dksX0_oneRight_1 10 rfl rfl)
theorem dX0_oneRight_36 : decode cX0_oneRight 36 = .ok (.iconst 0, 1) := dk_3 (dk_at dksX0_oneRight_1 13 rfl rfl)
theorem dX0_oneRight_37 : decode cX0_oneRight 37 = .ok (.istore_n 3, 1) := dk_62 (dk_at dksX0_oneRight_1 14 rfl rfl)
theorem dX0_oneRight_38 : decode cX0_oneRight 38 = .ok (.iload_n 3, 1) := dk_29 (dk_at dksX0_oneRight_1 15 rfl rfl)
theorem dX0_oneRight_39 : decode cX0_oneRight 39 = .ok (.aload_n 0, 1) := dk_42 (dk_at dksX0_oneRight_1 16 rfl rfl)
theorem dX0_oneRight_40 : decode cX0_oneRight 40 = .ok (.getfield 96, 3) := dk_180 0 96 (dk_at dksX0_oneRight_1 17 rfl rfl)
theorem dX0_oneRight_43 : decode cX0_oneRight 43 = .ok (.iconst 0, 1) := dk_3 (dk_at dksX0_oneRight_1 20 rfl rfl)
theorem dX0_oneRight_44 : decode cX0_oneRight 44 = .ok (.iaload, 1) := dk_46 (dk_at dksX0_oneRight_1 21 rfl rfl)
theorem dX0_oneRight_45 : decode cX0_oneRight 45 = .ok (.if_icmp .ge 52, 3) := dk_162 0 52 (dk_at dksX0_oneRight_2 0 rfl rfl)
theorem dX0_oneRight_48 : decode cX0_oneRight 48 = .ok (.aload_n 0, 1) := dk_42 (dk_at dksX0_oneRight_2 3 rfl rfl)
theorem dX0_oneRight_49 : decode cX0_oneRight 49 = .ok (.getfield 90, 3) := dk_180 0 90 (dk_at dksX0_oneRight_2 4 rfl rfl)
theorem dX0_oneRight_52 : decode cX0_oneRight 52 = .ok (.iload_n 1, 1) := dk_27 (dk_at dksX0_oneRight_2 7 rfl rfl)
theorem dX0_oneRight_53 : decode cX0_oneRight 53 = .ok (.aload_n 0, 1) := dk_42 (dk_at dksX0_oneRight_2 8 rfl rfl)
theorem dX0_oneRight_54 : decode cX0_oneRight 54 = .ok (.getfield 93, 3) := dk_180 0 93 (dk_at dksX0_oneRight_2 9 rfl rfl)
theorem dX0_oneRight_57 : decode cX0_oneRight 57 = .ok (.iconst 0, 1) := dk_3 (dk_at dksX0_oneRight_2 12 rfl rfl)
theorem dX0_oneRight_58 : decode cX0_oneRight 58 = .ok (.aaload, 1) := dk_50 (dk_at dksX0_oneRight_2 13 rfl rfl)
theorem dX0_oneRight_59 : decode cX0_oneRight 59 = .ok (.iload_n 3, 1) := dk_29 (dk_at dksX0_oneRight_2 14 rfl rfl)
theorem dX0_oneRight_60 : decode cX0_oneRight 60 = .ok (.iaload, 1) := dk_46 (dk_at dksX0_oneRight_2 15 rfl rfl)
theorem dX0_oneRight_61 : decode cX0_oneRight 61 = .ok (.i2l, 1) := dk_133 (dk_at dksX0_oneRight_2 16 rfl rfl)
theorem dX0_oneRight_62 : decode cX0_oneRight 62 = .ok (.lastore, 1) := dk_80 (dk_at dksX0_oneRight_2 17 rfl rfl)
theorem dX0_oneRight_63 : decode cX0_oneRight 63 = .ok (.aload_n 0, 1) := dk_42 (dk_at dksX0_oneRight_2 18 rfl rfl)
theorem dX0_oneRight_64 : decode cX0_oneRight 64 = .ok (.iload_n 1, 1) := dk_27 (dk_at dksX0_oneRight_2 19 rfl rfl)
theorem dX0_oneRight_65 : decode cX0_oneRight 65 = .ok (.invokevirtual 431, 3) := dk_182 1 175 (dk_at dksX0_oneRight_2 20 rfl rfl)
theorem dX0_oneRight_68 : decode cX0_oneRight 68 = .ok (.ifCond .ne 6, 3) := dk_154 0 6 (dk_at dksX0_oneRight_3 0 rfl rfl)
theorem dX0_oneRight_71 : decode cX0_oneRight 71 = .ok (.goto 20, 3) := dk_167 0 20 (dk_at dksX0_oneRight_3 3 rfl rfl)
theorem dX0_oneRight_74 : decode cX0_oneRight 74 = .ok (.aload_n 0, 1) := dk_42 (dk_at dksX0_oneRight_3 6 rfl rfl)
theorem dX0_oneRight_75 : decode cX0_oneRight 75 = .ok (.iload_n 1, 1) := dk_27 (dk_at dksX0_oneRight_3 7 rfl rfl)
theorem dX0_oneRight_76 : decode cX0_oneRight 76 = .ok (.aload_n 0, 1) := dk_42 (dk_at dksX0_oneRight_3 8 rfl rfl)
theorem dX0_oneRight_77 : decode cX0_oneRight 77 = .ok (.getfield 93, 3) := dk_180 0 93 (dk_at dksX0_oneRight_3 9 rfl rfl)
theorem dX0_oneRight_80 : decode cX0_oneRight 80 = .ok (.iconst 0, 1) := dk_3 (dk_at dksX0_oneRight_3 12 rfl rfl)
theorem dX0_oneRight_81 : decode cX0_oneRight 81 = .ok (.aaload, 1) := dk_50 (dk_at dksX0_oneRight_3 13 rfl rfl)
theorem dX0_oneRight_82 : decode cX0_oneRight 82 = .ok (.iload_n 3, 1) := dk_29 (dk_at dksX0_oneRight_3 14 rfl rfl)
theorem dX0_oneRight_83 : decode cX0_oneRight 83 = .ok (.iaload, 1) := dk_46 (dk_at dksX0_oneRight_3 15 rfl rfl)
theorem dX0_oneRight_84 : decode cX0_oneRight 84 = .ok (.iconst (-1), 1) := dk_2 (dk_at dksX0_oneRight_3 16 rfl rfl)
theorem dX0_oneRight_85 : decode cX0_oneRight 85 = .ok (.iconst 0, 1) := dk_3 (dk_at dksX0_oneRight_3 17 rfl rfl)
theorem dX0_oneRight_86 : decode cX0_oneRight 86 = .ok (.invokevirtual 434, 3) := dk_182 1 178 (dk_at dksX0_oneRight_3 18 rfl rfl)
theorem dX0_oneRight_89 : decode cX0_oneRight 89 = .ok (.iconst 1, 1) := dk_4 (dk_at dksX0_oneRight_3 21 rfl rfl)
theorem dX0_oneRight_90 : decode cX0_oneRight 90 = .ok (.ireturn, 1) := dk_172 (dk_at dksX0_oneRight_3 22 rfl rfl)
theorem dX0_oneRight_91 : decode cX0_oneRight 91 = .ok (.iinc 3 1, 3) := dk_132 3 1 (dk_at dksX0_oneRight_4 0 rfl rfl)
theorem dX0_oneRight_94 : decode cX0_oneRight 94 = .ok (.goto (-56), 3) := dk_167 255 200 (dk_at dksX0_oneRight_4 3 rfl rfl)
theorem dX0_oneRight_97 : decode cX0_oneRight 97 = .ok (.aload_n 0, 1) := dk_42 (dk_at dksX0_oneRight_4 6 rfl rfl)
theorem dX0_oneRight_98 : decode cX0_oneRight 98 = .ok (.getfield 90, 3) := dk_180 0 90 (dk_at dksX0_oneRight_4 7 rfl rfl)
theorem dX0_oneRight_101 : decode cX0_oneRight 101 = .ok (.iload_n 1, 1) := dk_27 (dk_at dksX0_oneRight_4 10 rfl rfl)
theorem dX0_oneRight_102 : decode cX0_oneRight 102 = .ok (.iload_n 2, 1) := dk_28 (dk_at dksX0_oneRight_4 11 rfl rfl)
theorem dX0_oneRight_103 : decode cX0_oneRight 103 = .ok (.i2l, 1) := dk_133 (dk_at dksX0_oneRight_4 12 rfl rfl)
theorem dX0_oneRight_104 : decode cX0_oneRight 104 = .ok (.lastore, 1) := dk_80 (dk_at dksX0_oneRight_4 13 rfl rfl)
theorem dX0_oneRight_105 : decode cX0_oneRight 105 = .ok (.iinc 1 1, 3) := dk_132 1 1 (dk_at dksX0_oneRight_4 14 rfl rfl)
theorem dX0_oneRight_108 : decode cX0_oneRight 108 = .ok (.goto (-106), 3) := dk_167 255 150 (dk_at dksX0_oneRight_4 17 rfl rfl)
theorem dX0_oneRight_111 : decode cX0_oneRight 111 = .ok (.iconst 0, 1) := dk_3 (dk_at dksX0_oneRight_4 20 rfl rfl)
theorem dX0_oneRight_112 : decode cX0_oneRight 112 = .ok (.ireturn, 1) := dk_172 (dk_at dksX0_oneRight_4 21 rfl rfl)
abbrev cX0_corrects : ByteArray := prog_1_method_54_code
def yX0_corrects : MethodName := ⟨RX0, "corrects", "(II)V"⟩
def dkwX0_corrects_5 : List UInt8 := [62, 132, 4, 1, 167, 255, 146, 177]
abbrev dktX0_corrects_5 : List UInt8 := dkwX0_corrects_5 ++ []
def dkwX0_corrects_4 : List UInt8 := [21, 5, 100, 29, 104, 96, 21, 5, 21, 6, 100, 29, 104, 16, 10, 104, 96, 182, 1, 165, 29, 16, 10, 104]
abbrev dktX0_corrects_4 : List UInt8 := dkwX0_corrects_4 ++ dktX0_corrects_5
def dkwX0_corrects_3 : List UInt8 := [28, 29, 108, 16, 10, 108, 16, 10, 112, 54, 6, 21, 6, 21, 5, 159, 0, 28, 42, 27, 28, 21, 6]
abbrev dktX0_corrects_3 : List UInt8 := dkwX0_corrects_3 ++ dktX0_corrects_4
def dkwX0_corrects_2 : List UInt8 := [21, 6, 21, 5, 100, 29, 104, 96, 182, 1, 165, 132, 6, 1, 167, 255, 225, 21, 4, 16, 7, 162, 0, 46]
abbrev dktX0_corrects_2 : List UInt8 := dkwX0_corrects_2 ++ dktX0_corrects_3
def dkwX0_corrects_1 : List UInt8 := [112, 54, 5, 3, 54, 6, 21, 6, 16, 10, 162, 0, 30, 21, 6, 21, 5, 159, 0, 17, 42, 27, 28]
abbrev dktX0_corrects_1 : List UInt8 := dkwX0_corrects_1 ++ dktX0_corrects_2
def dkwX0_corrects_0 : List UInt8 := [42, 180, 0, 96, 27, 3, 79, 4, 62, 3, 54, 4, 21, 4, 16, 8, 162, 0, 109, 28, 29, 108, 16, 10]
abbrev dktX0_corrects_0 : List UInt8 := dkwX0_corrects_0 ++ dktX0_corrects_1
theorem dksX0_corrects_0 : cX0_corrects.data.toList.drop 0 = dktX0_corrects_0 := by decide +kernel
theorem dksX0_corrects_1 : cX0_corrects.data.toList.drop 24 = dktX0_corrects_1 := dk_seg dksX0_corrects_0 24 rfl rfl
theorem dksX0_corrects_2 : cX0_corrects.data.toList.drop 47 = dktX0_corrects_2 := dk_seg dksX0_corrects_1 23 rfl rfl
theorem dksX0_corrects_3 : cX0_corrects.data.toList.drop 71 = dktX0_corrects_3 := dk_seg dksX0_corrects_2 24 rfl rfl
theorem dksX0_corrects_4 : cX0_corrects.data.toList.drop 94 = dktX0_corrects_4 := dk_seg dksX0_corrects_3 23 rfl rfl
theorem dksX0_corrects_5 : cX0_corrects.data.toList.drop 118 = dktX0_corrects_5 := dk_seg dksX0_corrects_4 24 rfl rfl
theorem dX0_corrects_0 : decode cX0_corrects 0 = .ok (.aload_n 0, 1) := dk_42 (dk_at dksX0_corrects_0 0 rfl rfl)
theorem dX0_corrects_1 : decode cX0_corrects 1 = .ok (.getfield 96, 3) := dk_180 0 96 (dk_at dksX0_corrects_0 1 rfl rfl)
theorem dX0_corrects_4 : decode cX0_corrects 4 = .ok (.iload_n 1, 1) := dk_27 (dk_at dksX0_corrects_0 4 rfl rfl)
theorem dX0_corrects_5 : decode cX0_corrects 5 = .ok (.iconst 0, 1) := dk_3 (dk_at dksX0_corrects_0 5 rfl rfl)
theorem dX0_corrects_6 : decode cX0_corrects 6 = .ok (.iastore, 1) := dk_79 (dk_at dksX0_corrects_0 6 rfl rfl)
theorem dX0_corrects_7 : decode cX0_corrects 7 = .ok (.iconst 1, 1) := dk_4 (dk_at dksX0_corrects_0 7 rfl rfl)
theorem dX0_corrects_8 : decode cX0_corrects 8 = .ok (.istore_n 3, 1) := dk_62 (dk_at dksX0_corrects_0 8 rfl rfl)
theorem dX0_corrects_9 : decode cX0_corrects 9 = .ok (.iconst 0, 1) := dk_3 (dk_at dksX0_corrects_0 9 rfl rfl)
theorem dX0_corrects_10 : decode cX0_corrects 10 = .ok (.istore 4, 2) := dk_54 4 (dk_at dksX0_corrects_0 10 rfl rfl)
theorem dX0_corrects_12 : decode cX0_corrects 12 = .ok (.iload 4, 2) := dk_21 4 (dk_at dksX0_corrects_0 12 rfl rfl)
theorem dX0_corrects_14 : decode cX0_corrects 14 = .ok (.bipush 8, 2) := dk_16 8 (dk_at dksX0_corrects_0 14 rfl rfl)
theorem dX0_corrects_16 : decode cX0_corrects 16 = .ok (.if_icmp .ge 109, 3) := dk_162 0 109 (dk_at dksX0_corrects_0 16 rfl rfl)
theorem dX0_corrects_19 : decode cX0_corrects 19 = .ok (.iload_n 2, 1) := dk_28 (dk_at dksX0_corrects_0 19 rfl rfl)
theorem dX0_corrects_20 : decode cX0_corrects 20 = .ok (.iload_n 3, 1) := dk_29 (dk_at dksX0_corrects_0 20 rfl rfl)
theorem dX0_corrects_21 : decode cX0_corrects 21 = .ok (.idiv, 1) := dk_108 (dk_at dksX0_corrects_0 21 rfl rfl)
theorem dX0_corrects_22 : decode cX0_corrects 22 = .ok (.bipush 10, 2) := dk_16 10 (dk_at dksX0_corrects_0 22 rfl rfl)
theorem dX0_corrects_24 : decode cX0_corrects 24 = .ok (.irem, 1) := dk_112 (dk_at dksX0_corrects_1 0 rfl rfl)
theorem dX0_corrects_25 : decode cX0_corrects 25 = .ok (.istore 5, 2) := dk_54 5 (dk_at dksX0_corrects_1 1 rfl rfl)
theorem dX0_corrects_27 : decode cX0_corrects 27 = .ok (.iconst 0, 1) := dk_3 (dk_at dksX0_corrects_1 3 rfl rfl)
theorem dX0_corrects_28 : decode cX0_corrects 28 = .ok (.istore 6, 2) := dk_54 6 (dk_at dksX0_corrects_1 4 rfl rfl)
theorem dX0_corrects_30 : decode cX0_corrects 30 = .ok (.iload 6, 2) := dk_21 6 (dk_at dksX0_corrects_1 6 rfl rfl)
theorem dX0_corrects_32 : decode cX0_corrects 32 = .ok (.bipush 10, 2) := dk_16 10 (dk_at dksX0_corrects_1 8 rfl rfl)
theorem dX0_corrects_34 : decode cX0_corrects 34 = .ok (.if_icmp .ge 30, 3) := dk_162 0 30 (dk_at dksX0_corrects_1 10 rfl rfl)
theorem dX0_corrects_37 : decode cX0_corrects 37 = .ok (.iload 6, 2) := dk_21 6 (dk_at dksX0_corrects_1 13 rfl rfl)
theorem dX0_corrects_39 : decode cX0_corrects 39 = .ok (.iload 5, 2) := dk_21 5 (dk_at dksX0_corrects_1 15 rfl rfl)
theorem dX0_corrects_41 : decode cX0_corrects 41 = .ok (.if_icmp .eq 17, 3) := dk_159 0 17 (dk_at dksX0_corrects_1 17 rfl rfl)
theorem dX0_corrects_44 : decode cX0_corrects 44 = .ok (.aload_n 0, 1) := dk_42 (dk_at dksX0_corrects_1 20 rfl rfl)
theorem dX0_corrects_45 : decode cX0_corrects 45 = .ok (.iload_n 1, 1) := dk_27 (dk_at dksX0_corrects_1 21 rfl rfl)
theorem dX0_corrects_46 : decode cX0_corrects 46 = .ok (.iload_n 2, 1) := dk_28 (dk_at dksX0_corrects_1 22 rfl rfl)
theorem dX0_corrects_47 : decode cX0_corrects 47 = .ok (.iload 6, 2) := dk_21 6 (dk_at dksX0_corrects_2 0 rfl rfl)
theorem dX0_corrects_49 : decode cX0_corrects 49 = .ok (.iload 5, 2) := dk_21 5 (dk_at dksX0_corrects_2 2 rfl rfl)
theorem dX0_corrects_51 : decode cX0_corrects 51 = .ok (.isub, 1) := dk_100 (dk_at dksX0_corrects_2 4 rfl rfl)
theorem dX0_corrects_52 : decode cX0_corrects 52 = .ok (.iload_n 3, 1) := dk_29 (dk_at dksX0_corrects_2 5 rfl rfl)
theorem dX0_corrects_53 : decode cX0_corrects 53 = .ok (.imul, 1) := dk_104 (dk_at dksX0_corrects_2 6 rfl rfl)
theorem dX0_corrects_54 : decode cX0_corrects 54 = .ok (.iadd, 1) := dk_96 (dk_at dksX0_corrects_2 7 rfl rfl)
theorem dX0_corrects_55 : decode cX0_corrects 55 = .ok (.invokevirtual 421, 3) := dk_182 1 165 (dk_at dksX0_corrects_2 8 rfl rfl)
theorem dX0_corrects_58 : decode cX0_corrects 58 = .ok (.iinc 6 1, 3) := dk_132 6 1 (dk_at dksX0_corrects_2 11 rfl rfl)
theorem dX0_corrects_61 : decode cX0_corrects 61 = .ok (.goto (-31), 3) := dk_167 255 225 (dk_at dksX0_corrects_2 14 rfl rfl)
theorem dX0_corrects_64 : decode cX0_corrects 64 = .ok (.iload 4, 2) := dk_21 4 (dk_at dksX0_corrects_2 17 rfl rfl)
theorem dX0_corrects_66 : decode cX0_corrects 66 = .ok (.bipush 7, 2) := dk_16 7 (dk_at dksX0_corrects_2 19 rfl rfl)
theorem dX0_corrects_68 : decode cX0_corrects 68 = .ok (.if_icmp .ge 46, 3) := dk_162 0 46 (dk_at dksX0_corrects_2 21 rfl rfl)
theorem dX0_corrects_71 : decode cX0_corrects 71 = .ok (.iload_n 2, 1) := dk_28 (dk_at dksX0_corrects_3 0 rfl rfl)
theorem dX0_corrects_72 : decode cX0_corrects 72 = .ok (.iload_n 3, 1) := dk_29 (dk_at dksX0_corrects_3 1 rfl rfl)
theorem dX0_corrects_73 : decode cX0_corrects 73 = .ok (.idiv, 1) := dk_108 (dk_at dksX0_corrects_3 2 rfl rfl)
theorem dX0_corrects_74 : decode cX0_corrects 74 = .ok (.bipush 10, 2) := dk_16 10 (dk_at dksX0_corrects_3 3 rfl rfl)
theorem dX0_corrects_76 : decode cX0_corrects 76 = .ok (.idiv, 1) := dk_108 (dk_at dksX0_corrects_3 5 rfl rfl)
theorem dX0_corrects_77 : decode cX0_corrects 77 = .ok (.bipush 10, 2) := dk_16 10 (dk_at dksX0_corrects_3 6 rfl rfl)
theorem dX0_corrects_79 : decode cX0_corrects 79 = .ok (.irem, 1) := dk_112 (dk_at dksX0_corrects_3 8 rfl rfl)
theorem dX0_corrects_80 : decode cX0_corrects 80 = .ok (.istore 6, 2) := dk_54 6 (dk_at dksX0_corrects_3 9 rfl rfl)
theorem dX0_corrects_82 : decode cX0_corrects 82 = .ok (.iload 6, 2) := dk_21 6 (dk_at dksX0_corrects_3 11 rfl rfl)
theorem dX0_corrects_84 : decode cX0_corrects 84 = .ok (.iload 5, 2) := dk_21 5 (dk_at dksX0_corrects_3 13 rfl rfl)
theorem dX0_corrects_86 : decode cX0_corrects 86 = .ok (.if_icmp .eq 28, 3) := dk_159 0 28 (dk_at dksX0_corrects_3 15 rfl rfl)
theorem dX0_corrects_89 : decode cX0_corrects 89 = .ok (.aload_n 0, 1) := dk_42 (dk_at dksX0_corrects_3 18 rfl rfl)
theorem dX0_corrects_90 : decode cX0_corrects 90 = .ok (.iload_n 1, 1) := dk_27 (dk_at dksX0_corrects_3 19 rfl rfl)
theorem dX0_corrects_91 : decode cX0_corrects 91 = .ok (.iload_n 2, 1) := dk_28 (dk_at dksX0_corrects_3 20 rfl rfl)
theorem dX0_corrects_92 : decode cX0_corrects 92 = .ok (.iload 6, 2) := dk_21 6 (dk_at dksX0_corrects_3 21 rfl rfl)
theorem dX0_corrects_94 : decode cX0_corrects 94 = .ok (.iload 5, 2) := dk_21 5 (dk_at dksX0_corrects_4 0 rfl rfl)
theorem dX0_corrects_96 : decode cX0_corrects 96 = .ok (.isub, 1) := dk_100 (dk_at dksX0_corrects_4 2 rfl rfl)
theorem dX0_corrects_97 : decode cX0_corrects 97 = .ok (.iload_n 3, 1) := dk_29 (dk_at dksX0_corrects_4 3 rfl rfl)
theorem dX0_corrects_98 : decode cX0_corrects 98 = .ok (.imul, 1) := dk_104 (dk_at dksX0_corrects_4 4 rfl rfl)
theorem dX0_corrects_99 : decode cX0_corrects 99 = .ok (.iadd, 1) := dk_96 (dk_at dksX0_corrects_4 5 rfl rfl)
theorem dX0_corrects_100 : decode cX0_corrects 100 = .ok (.iload 5, 2) := dk_21 5 (dk_at dksX0_corrects_4 6 rfl rfl)
theorem dX0_corrects_102 : decode cX0_corrects 102 = .ok (.iload 6, 2) := dk_21 6 (dk_at dksX0_corrects_4 8 rfl rfl)
theorem dX0_corrects_104 : decode cX0_corrects 104 = .ok (.isub, 1) := dk_100 (dk_at dksX0_corrects_4 10 rfl rfl)
theorem dX0_corrects_105 : decode cX0_corrects 105 = .ok (.iload_n 3, 1) := dk_29 (dk_at dksX0_corrects_4 11 rfl rfl)
theorem dX0_corrects_106 : decode cX0_corrects 106 = .ok (.imul, 1) := dk_104 (dk_at dksX0_corrects_4 12 rfl rfl)
theorem dX0_corrects_107 : decode cX0_corrects 107 = .ok (.bipush 10, 2) := dk_16 10 (dk_at dksX0_corrects_4 13 rfl rfl)
theorem dX0_corrects_109 : decode cX0_corrects 109 = .ok (.imul, 1) := dk_104 (dk_at dksX0_corrects_4 15 rfl rfl)
theorem dX0_corrects_110 : decode cX0_corrects 110 = .ok (.iadd, 1) := dk_96 (dk_at dksX0_corrects_4 16 rfl rfl)
theorem dX0_corrects_111 : decode cX0_corrects 111 = .ok (.invokevirtual 421, 3) := dk_182 1 165 (dk_at dksX0_corrects_4 17 rfl rfl)
theorem dX0_corrects_114 : decode cX0_corrects 114 = .ok (.iload_n 3, 1) := dk_29 (dk_at dksX0_corrects_4 20 rfl rfl)
theorem dX0_corrects_115 : decode cX0_corrects 115 = .ok (.bipush 10, 2) := dk_16 10 (dk_at dksX0_corrects_4 21 rfl rfl)
theorem dX0_corrects_117 : decode cX0_corrects 117 = .ok (.imul, 1) := dk_104 (dk_at dksX0_corrects_4 23 rfl rfl)
theorem dX0_corrects_118 : decode cX0_corrects 118 = .ok (.istore_n 3, 1) := dk_62 (dk_at dksX0_corrects_5 0 rfl rfl)
theorem dX0_corrects_119 : decode cX0_corrects 119 = .ok (.iinc 4 1, 3) := dk_132 4 1 (dk_at dksX0_corrects_5 1 rfl rfl)
theorem dX0_corrects_122 : decode cX0_corrects 122 = .ok (.goto (-110), 3) := dk_167 255 146 (dk_at dksX0_corrects_5 4 rfl rfl)
theorem dX0_corrects_125 : decode cX0_corrects 125 = .ok (.return_, 1) := dk_177 (dk_at dksX0_corrects_5 7 rfl rfl)
abbrev cX0_adds : ByteArray := prog_1_method_53_code
def yX0_adds : MethodName := ⟨RX0, "adds", "(II)V"⟩
def dkwX0_adds_4 : List UInt8 := [4, 96, 79, 177]
abbrev dktX0_adds_4 : List UInt8 := dkwX0_adds_4 ++ []
def dkwX0_adds_3 : List UInt8 := [21, 5, 4, 100, 46, 79, 132, 5, 255, 167, 255, 236, 45, 21, 4, 28, 79, 42, 180, 0, 96, 27, 92, 46]
abbrev dktX0_adds_3 : List UInt8 := dkwX0_adds_3 ++ dktX0_adds_4
def dkwX0_adds_2 : List UInt8 := [160, 0, 4, 177, 42, 180, 0, 96, 27, 46, 54, 5, 21, 5, 21, 4, 164, 0, 19, 45, 21, 5, 45]
abbrev dktX0_adds_2 : List UInt8 := dkwX0_adds_2 ++ dktX0_adds_3
def dkwX0_adds_1 : List UInt8 := [100, 46, 28, 164, 0, 9, 132, 4, 255, 167, 255, 238, 21, 4, 158, 0, 14, 45, 21, 4, 4, 100, 46, 28]
abbrev dktX0_adds_1 : List UInt8 := dkwX0_adds_1 ++ dktX0_adds_2
def dkwX0_adds_0 : List UInt8 := [42, 180, 0, 93, 27, 50, 78, 42, 180, 0, 96, 27, 46, 54, 4, 21, 4, 158, 0, 19, 45, 21, 4, 4]
abbrev dktX0_adds_0 : List UInt8 := dkwX0_adds_0 ++ dktX0_adds_1
theorem dksX0_adds_0 : cX0_adds.data.toList.drop 0 = dktX0_adds_0 := by decide +kernel
theorem dksX0_adds_1 : cX0_adds.data.toList.drop 24 = dktX0_adds_1 := dk_seg dksX0_adds_0 24 rfl rfl
theorem dksX0_adds_2 : cX0_adds.data.toList.drop 48 = dktX0_adds_2 := dk_seg dksX0_adds_1 24 rfl rfl
theorem dksX0_adds_3 : cX0_adds.data.toList.drop 71 = dktX0_adds_3 := dk_seg dksX0_adds_2 23 rfl rfl
theorem dksX0_adds_4 : cX0_adds.data.toList.drop 95 = dktX0_adds_4 := dk_seg dksX0_adds_3 24 rfl rfl
theorem dX0_adds_0 : decode cX0_adds 0 = .ok (.aload_n 0, 1) := dk_42 (dk_at dksX0_adds_0 0 rfl rfl)
theorem dX0_adds_1 : decode cX0_adds 1 = .ok (.getfield 93, 3) := dk_180 0 93 (dk_at dksX0_adds_0 1 rfl rfl)
theorem dX0_adds_4 : decode cX0_adds 4 = .ok (.iload_n 1, 1) := dk_27 (dk_at dksX0_adds_0 4 rfl rfl)
theorem dX0_adds_5 : decode cX0_adds 5 = .ok (.aaload, 1) := dk_50 (dk_at dksX0_adds_0 5 rfl rfl)
theorem dX0_adds_6 : decode cX0_adds 6 = .ok (.astore_n 3, 1) := dk_78 (dk_at dksX0_adds_0 6 rfl rfl)
theorem dX0_adds_7 : decode cX0_adds 7 = .ok (.aload_n 0, 1) := dk_42 (dk_at dksX0_adds_0 7 rfl rfl)
theorem dX0_adds_8 : decode cX0_adds 8 = .ok (.getfield 96, 3) := dk_180 0 96 (dk_at dksX0_adds_0 8 rfl rfl)
theorem dX0_adds_11 : decode cX0_adds 11 = .ok (.iload_n 1, 1) := dk_27 (dk_at dksX0_adds_0 11 rfl rfl)
theorem dX0_adds_12 : decode cX0_adds 12 = .ok (.iaload, 1) := dk_46 (dk_at dksX0_adds_0 12 rfl rfl)
theorem dX0_adds_13 : decode cX0_adds 13 = .ok (.istore 4, 2) := dk_54 4 (dk_at dksX0_adds_0 13 rfl rfl)
theorem dX0_adds_15 : decode cX0_adds 15 = .ok (.iload 4, 2) := dk_21 4 (dk_at dksX0_adds_0 15 rfl rfl)
theorem dX0_adds_17 : decode cX0_adds 17 = .ok (.ifCond .le 19, 3) := dk_158 0 19 (dk_at dksX0_adds_0 17 rfl rfl)
theorem dX0_adds_20 : decode cX0_adds 20 = .ok (.aload_n 3, 1) := dk_45 (dk_at dksX0_adds_0 20 rfl rfl)
theorem dX0_adds_21 : decode cX0_adds 21 = .ok (.iload 4, 2) := dk_21 4 (dk_at dksX0_adds_0 21 rfl rfl)
theorem dX0_adds_23 : decode cX0_adds 23 = .ok (.iconst 1, 1) := dk_4 (dk_at dksX0_adds_0 23 rfl rfl)
theorem dX0_adds_24 : decode cX0_adds 24 = .ok (.isub, 1) := dk_100 (dk_at dksX0_adds_1 0 rfl rfl)
theorem dX0_adds_25 : decode cX0_adds 25 = .ok (.iaload, 1) := dk_46 (dk_at dksX0_adds_1 1 rfl rfl)
theorem dX0_adds_26 : decode cX0_adds 26 = .ok (.iload_n 2, 1) := dk_28 (dk_at dksX0_adds_1 2 rfl rfl)
theorem dX0_adds_27 : decode cX0_adds 27 = .ok (.if_icmp .le 9, 3) := dk_164 0 9 (dk_at dksX0_adds_1 3 rfl rfl)
theorem dX0_adds_30 : decode cX0_adds 30 = .ok (.iinc 4 (-1), 3) := dk_132 4 255 (dk_at dksX0_adds_1 6 rfl rfl)
theorem dX0_adds_33 : decode cX0_adds 33 = .ok (.goto (-18), 3) := dk_167 255 238 (dk_at dksX0_adds_1 9 rfl rfl)
theorem dX0_adds_36 : decode cX0_adds 36 = .ok (.iload 4, 2) := dk_21 4 (dk_at dksX0_adds_1 12 rfl rfl)
theorem dX0_adds_38 : decode cX0_adds 38 = .ok (.ifCond .le 14, 3) := dk_158 0 14 (dk_at dksX0_adds_1 14 rfl rfl)
theorem dX0_adds_41 : decode cX0_adds 41 = .ok (.aload_n 3, 1) := dk_45 (dk_at dksX0_adds_1 17 rfl rfl)
theorem dX0_adds_42 : decode cX0_adds 42 = .ok (.iload 4, 2) := dk_21 4 (dk_at dksX0_adds_1 18 rfl rfl)
theorem dX0_adds_44 : decode cX0_adds 44 = .ok (.iconst 1, 1) := dk_4 (dk_at dksX0_adds_1 20 rfl rfl)
theorem dX0_adds_45 : decode cX0_adds 45 = .ok (.isub, 1) := dk_100 (dk_at dksX0_adds_1 21 rfl rfl)
theorem dX0_adds_46 : decode cX0_adds 46 = .ok (.iaload, 1) := dk_46 (dk_at dksX0_adds_1 22 rfl rfl)
theorem dX0_adds_47 : decode cX0_adds 47 = .ok (.iload_n 2, 1) := dk_28 (dk_at dksX0_adds_1 23 rfl rfl)
theorem dX0_adds_48 : decode cX0_adds 48 = .ok (.if_icmp .ne 4, 3) := dk_160 0 4 (dk_at dksX0_adds_2 0 rfl rfl)
theorem dX0_adds_51 : decode cX0_adds 51 = .ok (.return_, 1) := dk_177 (dk_at dksX0_adds_2 3 rfl rfl)
theorem dX0_adds_52 : decode cX0_adds 52 = .ok (.aload_n 0, 1) := dk_42 (dk_at dksX0_adds_2 4 rfl rfl)
theorem dX0_adds_53 : decode cX0_adds 53 = .ok (.getfield 96, 3) := dk_180 0 96 (dk_at dksX0_adds_2 5 rfl rfl)
theorem dX0_adds_56 : decode cX0_adds 56 = .ok (.iload_n 1, 1) := dk_27 (dk_at dksX0_adds_2 8 rfl rfl)
theorem dX0_adds_57 : decode cX0_adds 57 = .ok (.iaload, 1) := dk_46 (dk_at dksX0_adds_2 9 rfl rfl)
theorem dX0_adds_58 : decode cX0_adds 58 = .ok (.istore 5, 2) := dk_54 5 (dk_at dksX0_adds_2 10 rfl rfl)
theorem dX0_adds_60 : decode cX0_adds 60 = .ok (.iload 5, 2) := dk_21 5 (dk_at dksX0_adds_2 12 rfl rfl)
theorem dX0_adds_62 : decode cX0_adds 62 = .ok (.iload 4, 2) := dk_21 4 (dk_at dksX0_adds_2 14 rfl rfl)
theorem dX0_adds_64 : decode cX0_adds 64 = .ok (.if_icmp .le 19, 3) := dk_164 0 19 (dk_at dksX0_adds_2 16 rfl rfl)
theorem dX0_adds_67 : decode cX0_adds 67 = .ok (.aload_n 3, 1) := dk_45 (dk_at dksX0_adds_2 19 rfl rfl)
theorem dX0_adds_68 : decode cX0_adds 68 = .ok (.iload 5, 2) := dk_21 5 (dk_at dksX0_adds_2 20 rfl rfl)
theorem dX0_adds_70 : decode cX0_adds 70 = .ok (.aload_n 3, 1) := dk_45 (dk_at dksX0_adds_2 22 rfl rfl)
theorem dX0_adds_71 : decode cX0_adds 71 = .ok (.iload 5, 2) := dk_21 5 (dk_at dksX0_adds_3 0 rfl rfl)
theorem dX0_adds_73 : decode cX0_adds 73 = .ok (.iconst 1, 1) := dk_4 (dk_at dksX0_adds_3 2 rfl rfl)
theorem dX0_adds_74 : decode cX0_adds 74 = .ok (.isub, 1) := dk_100 (dk_at dksX0_adds_3 3 rfl rfl)
theorem dX0_adds_75 : decode cX0_adds 75 = .ok (.iaload, 1) := dk_46 (dk_at dksX0_adds_3 4 rfl rfl)
theorem dX0_adds_76 : decode cX0_adds 76 = .ok (.iastore, 1) := dk_79 (dk_at dksX0_adds_3 5 rfl rfl)
theorem dX0_adds_77 : decode cX0_adds 77 = .ok (.iinc 5 (-1), 3) := dk_132 5 255 (dk_at dksX0_adds_3 6 rfl rfl)
theorem dX0_adds_80 : decode cX0_adds 80 = .ok (.goto (-20), 3) := dk_167 255 236 (dk_at dksX0_adds_3 9 rfl rfl)
theorem dX0_adds_83 : decode cX0_adds 83 = .ok (.aload_n 3, 1) := dk_45 (dk_at dksX0_adds_3 12 rfl rfl)
theorem dX0_adds_84 : decode cX0_adds 84 = .ok (.iload 4, 2) := dk_21 4 (dk_at dksX0_adds_3 13 rfl rfl)
theorem dX0_adds_86 : decode cX0_adds 86 = .ok (.iload_n 2, 1) := dk_28 (dk_at dksX0_adds_3 15 rfl rfl)
theorem dX0_adds_87 : decode cX0_adds 87 = .ok (.iastore, 1) := dk_79 (dk_at dksX0_adds_3 16 rfl rfl)
theorem dX0_adds_88 : decode cX0_adds 88 = .ok (.aload_n 0, 1) := dk_42 (dk_at dksX0_adds_3 17 rfl rfl)
theorem dX0_adds_89 : decode cX0_adds 89 = .ok (.getfield 96, 3) := dk_180 0 96 (dk_at dksX0_adds_3 18 rfl rfl)
theorem dX0_adds_92 : decode cX0_adds 92 = .ok (.iload_n 1, 1) := dk_27 (dk_at dksX0_adds_3 21 rfl rfl)
theorem dX0_adds_93 : decode cX0_adds 93 = .ok (.dup2, 1) := dk_92 (dk_at dksX0_adds_3 22 rfl rfl)
theorem dX0_adds_94 : decode cX0_adds 94 = .ok (.iaload, 1) := dk_46 (dk_at dksX0_adds_3 23 rfl rfl)
theorem dX0_adds_95 : decode cX0_adds 95 = .ok (.iconst 1, 1) := dk_4 (dk_at dksX0_adds_4 0 rfl rfl)
theorem dX0_adds_96 : decode cX0_adds 96 = .ok (.iadd, 1) := dk_96 (dk_at dksX0_adds_4 1 rfl rfl)
theorem dX0_adds_97 : decode cX0_adds 97 = .ok (.iastore, 1) := dk_79 (dk_at dksX0_adds_4 2 rfl rfl)
theorem dX0_adds_98 : decode cX0_adds 98 = .ok (.return_, 1) := dk_177 (dk_at dksX0_adds_4 3 rfl rfl)
abbrev cX0_isSmoothBy : ByteArray := prog_1_method_51_code
def yX0_isSmoothBy : MethodName := ⟨RX0, "isSmoothBy", "(I)Z"⟩
def dkwX0_isSmoothBy_1 : List UInt8 := [180, 1, 159, 162, 0, 19, 42, 28, 182, 1, 162, 154, 0, 5, 3, 172, 132, 2, 1, 167, 255, 225, 4, 172]
abbrev dktX0_isSmoothBy_1 : List UInt8 := dkwX0_isSmoothBy_1 ++ []
def dkwX0_isSmoothBy_0 : List UInt8 := [3, 27, 42, 180, 1, 150, 100, 184, 1, 156, 61, 28, 27, 163, 0, 32, 28, 42, 180, 1, 150, 96, 42]
abbrev dktX0_isSmoothBy_0 : List UInt8 := dkwX0_isSmoothBy_0 ++ dktX0_isSmoothBy_1
theorem dksX0_isSmoothBy_0 : cX0_isSmoothBy.data.toList.drop 0 = dktX0_isSmoothBy_0 := by decide +kernel
theorem dksX0_isSmoothBy_1 : cX0_isSmoothBy.data.toList.drop 23 = dktX0_isSmoothBy_1 := dk_seg dksX0_isSmoothBy_0 23 rfl rfl
theorem dX0_isSmoothBy_0 : decode cX0_isSmoothBy 0 = .ok (.iconst 0, 1) := dk_3 (dk_at dksX0_isSmoothBy_0 0 rfl rfl)
theorem dX0_isSmoothBy_1 : decode cX0_isSmoothBy 1 = .ok (.iload_n 1, 1) := dk_27 (dk_at dksX0_isSmoothBy_0 1 rfl rfl)
theorem dX0_isSmoothBy_2 : decode cX0_isSmoothBy 2 = .ok (.aload_n 0, 1) := dk_42 (dk_at dksX0_isSmoothBy_0 2 rfl rfl)
theorem dX0_isSmoothBy_3 : decode cX0_isSmoothBy 3 = .ok (.getfield 406, 3) := dk_180 1 150 (dk_at dksX0_isSmoothBy_0 3 rfl rfl)
theorem dX0_isSmoothBy_6 : decode cX0_isSmoothBy 6 = .ok (.isub, 1) := dk_100 (dk_at dksX0_isSmoothBy_0 6 rfl rfl)
theorem dX0_isSmoothBy_7 : decode cX0_isSmoothBy 7 = .ok (.invokestatic 412, 3) := dk_184 1 156 (dk_at dksX0_isSmoothBy_0 7 rfl rfl)
theorem dX0_isSmoothBy_10 : decode cX0_isSmoothBy 10 = .ok (.istore_n 2, 1) := dk_61 (dk_at dksX0_isSmoothBy_0 10 rfl rfl)
theorem dX0_isSmoothBy_11 : decode cX0_isSmoothBy 11 = .ok (.iload_n 2, 1) := dk_28 (dk_at dksX0_isSmoothBy_0 11 rfl rfl)
theorem dX0_isSmoothBy_12 : decode cX0_isSmoothBy 12 = .ok (.iload_n 1, 1) := dk_27 (dk_at dksX0_isSmoothBy_0 12 rfl rfl)
theorem dX0_isSmoothBy_13 : decode cX0_isSmoothBy 13 = .ok (.if_icmp .gt 32, 3) := dk_163 0 32 (dk_at dksX0_isSmoothBy_0 13 rfl rfl)
theorem dX0_isSmoothBy_16 : decode cX0_isSmoothBy 16 = .ok (.iload_n 2, 1) := dk_28 (dk_at dksX0_isSmoothBy_0 16 rfl rfl)
theorem dX0_isSmoothBy_17 : decode cX0_isSmoothBy 17 = .ok (.aload_n 0, 1) := dk_42 (dk_at dksX0_isSmoothBy_0 17 rfl rfl)
theorem dX0_isSmoothBy_18 : decode cX0_isSmoothBy 18 = .ok (.getfield 406, 3) := dk_180 1 150 (dk_at dksX0_isSmoothBy_0 18 rfl rfl)
theorem dX0_isSmoothBy_21 : decode cX0_isSmoothBy 21 = .ok (.iadd, 1) := dk_96 (dk_at dksX0_isSmoothBy_0 21 rfl rfl)
theorem dX0_isSmoothBy_22 : decode cX0_isSmoothBy 22 = .ok (.aload_n 0, 1) := dk_42 (dk_at dksX0_isSmoothBy_0 22 rfl rfl)
theorem dX0_isSmoothBy_23 : decode cX0_isSmoothBy 23 = .ok (.getfield 415, 3) := dk_180 1 159 (dk_at dksX0_isSmoothBy_1 0 rfl rfl)
theorem dX0_isSmoothBy_26 : decode cX0_isSmoothBy 26 = .ok (.if_icmp .ge 19, 3) := dk_162 0 19 (dk_at dksX0_isSmoothBy_1 3 rfl rfl)
theorem dX0_isSmoothBy_29 : decode cX0_isSmoothBy 29 = .ok (.aload_n 0, 1) := dk_42 (dk_at dksX0_isSmoothBy_1 6 rfl rfl)
theorem dX0_isSmoothBy_30 : decode cX0_isSmoothBy 30 = .ok (.iload_n 2, 1) := dk_28 (dk_at dksX0_isSmoothBy_1 7 rfl rfl)
theorem dX0_isSmoothBy_31 : decode cX0_isSmoothBy 31 = .ok (.invokevirtual 418, 3) := dk_182 1 162 (dk_at dksX0_isSmoothBy_1 8 rfl rfl)
theorem dX0_isSmoothBy_34 : decode cX0_isSmoothBy 34 = .ok (.ifCond .ne 5, 3) := dk_154 0 5 (dk_at dksX0_isSmoothBy_1 11 rfl rfl)
theorem dX0_isSmoothBy_37 : decode cX0_isSmoothBy 37 = .ok (.iconst 0, 1) := dk_3 (dk_at dksX0_isSmoothBy_1 14 rfl rfl)
theorem dX0_isSmoothBy_38 : decode cX0_isSmoothBy 38 = .ok (.ireturn, 1) := dk_172 (dk_at dksX0_isSmoothBy_1 15 rfl rfl)
theorem dX0_isSmoothBy_39 : decode cX0_isSmoothBy 39 = .ok (.iinc 2 1, 3) := dk_132 2 1 (dk_at dksX0_isSmoothBy_1 16 rfl rfl)
theorem dX0_isSmoothBy_42 : decode cX0_isSmoothBy 42 = .ok (.goto (-31), 3) := dk_167 255 225 (dk_at dksX0_isSmoothBy_1 19 rfl rfl)
theorem dX0_isSmoothBy_45 : decode cX0_isSmoothBy 45 = .ok (.iconst 1, 1) := dk_4 (dk_at dksX0_isSmoothBy_1 22 rfl rfl)
theorem dX0_isSmoothBy_46 : decode cX0_isSmoothBy 46 = .ok (.ireturn, 1) := dk_172 (dk_at dksX0_isSmoothBy_1 23 rfl rfl)
abbrev cX0_twoRight : ByteArray := prog_1_method_57_code
def yX0_twoRight : MethodName := ⟨RX0, "twoRight", "()Z"⟩
def dkwX0_twoRight_2 : List UInt8 := [167, 255, 222, 132, 1, 1, 167, 255, 204, 3, 172]
abbrev dktX0_twoRight_2 : List UInt8 := dkwX0_twoRight_2 ++ []
def dkwX0_twoRight_1 : List UInt8 := [28, 182, 1, 168, 154, 0, 6, 167, 0, 14, 42, 27, 28, 182, 1, 181, 153, 0, 5, 4, 172, 132, 2, 1]
abbrev dktX0_twoRight_1 : List UInt8 := dkwX0_twoRight_1 ++ dktX0_twoRight_2
def dkwX0_twoRight_0 : List UInt8 := [3, 60, 27, 42, 180, 1, 159, 162, 0, 50, 27, 4, 96, 61, 28, 42, 180, 1, 159, 162, 0, 32, 42, 27]
abbrev dktX0_twoRight_0 : List UInt8 := dkwX0_twoRight_0 ++ dktX0_twoRight_1
theorem dksX0_twoRight_0 : cX0_twoRight.data.toList.drop 0 = dktX0_twoRight_0 := by decide +kernel
theorem dksX0_twoRight_1 : cX0_twoRight.data.toList.drop 24 = dktX0_twoRight_1 := dk_seg dksX0_twoRight_0 24 rfl rfl
theorem dksX0_twoRight_2 : cX0_twoRight.data.toList.drop 48 = dktX0_twoRight_2 := dk_seg dksX0_twoRight_1 24 rfl rfl
theorem dX0_twoRight_0 : decode cX0_twoRight 0 = .ok (.iconst 0, 1) := dk_3 (dk_at dksX0_twoRight_0 0 rfl rfl)
theorem dX0_twoRight_1 : decode cX0_twoRight 1 = .ok (.istore_n 1, 1) := dk_60 (dk_at dksX0_twoRight_0 1 rfl rfl)
theorem dX0_twoRight_2 : decode cX0_twoRight 2 = .ok (.iload_n 1, 1) := dk_27 (dk_at dksX0_twoRight_0 2 rfl rfl)
theorem dX0_twoRight_3 : decode cX0_twoRight 3 = .ok (.aload_n 0, 1) := dk_42 (dk_at dksX0_twoRight_0 3 rfl rfl)
theorem dX0_twoRight_4 : decode cX0_twoRight 4 = .ok (.getfield 415, 3) := dk_180 1 159 (dk_at dksX0_twoRight_0 4 rfl rfl)
theorem dX0_twoRight_7 : decode cX0_twoRight 7 = .ok (.if_icmp .ge 50, 3) := dk_162 0 50 (dk_at dksX0_twoRight_0 7 rfl rfl)
theorem dX0_twoRight_10 : decode cX0_twoRight 10 = .ok (.iload_n 1, 1) := dk_27 (dk_at dksX0_twoRight_0 10 rfl rfl)
theorem dX0_twoRight_11 : decode cX0_twoRight 11 = .ok (.iconst 1, 1) := dk_4 (dk_at dksX0_twoRight_0 11 rfl rfl)
theorem dX0_twoRight_12 : decode cX0_twoRight 12 = .ok (.iadd, 1) := dk_96 (dk_at dksX0_twoRight_0 12 rfl rfl)
theorem dX0_twoRight_13 : decode cX0_twoRight 13 = .ok (.istore_n 2, 1) := dk_61 (dk_at dksX0_twoRight_0 13 rfl rfl)
theorem dX0_twoRight_14 : decode cX0_twoRight 14 = .ok (.iload_n 2, 1) := dk_28 (dk_at dksX0_twoRight_0 14 rfl rfl)
theorem dX0_twoRight_15 : decode cX0_twoRight 15 = .ok (.aload_n 0, 1) := dk_42 (dk_at dksX0_twoRight_0 15 rfl rfl)
theorem dX0_twoRight_16 : decode cX0_twoRight 16 = .ok (.getfield 415, 3) := dk_180 1 159 (dk_at dksX0_twoRight_0 16 rfl rfl)
theorem dX0_twoRight_19 : decode cX0_twoRight 19 = .ok (.if_icmp .ge 32, 3) := dk_162 0 32 (dk_at dksX0_twoRight_0 19 rfl rfl)
theorem dX0_twoRight_22 : decode cX0_twoRight 22 = .ok (.aload_n 0, 1) := dk_42 (dk_at dksX0_twoRight_0 22 rfl rfl)
theorem dX0_twoRight_23 : decode cX0_twoRight 23 = .ok (.iload_n 1, 1) := dk_27 (dk_at dksX0_twoRight_0 23 rfl rfl)
theorem dX0_twoRight_24 : decode cX0_twoRight 24 = .ok (.iload_n 2, 1) := dk_28 (dk_at dksX0_twoRight_1 0 rfl rfl)
theorem dX0_twoRight_25 : decode cX0_twoRight 25 = .ok (.invokevirtual 424, 3) := dk_182 1 168 (dk_at dksX0_twoRight_1 1 rfl rfl)
theorem dX0_twoRight_28 : decode cX0_twoRight 28 = .ok (.ifCond .ne 6, 3) := dk_154 0 6 (dk_at dksX0_twoRight_1 4 rfl rfl)
theorem dX0_twoRight_31 : decode cX0_twoRight 31 = .ok (.goto 14, 3) := dk_167 0 14 (dk_at dksX0_twoRight_1 7 rfl rfl)
theorem dX0_twoRight_34 : decode cX0_twoRight 34 = .ok (.aload_n 0, 1) := dk_42 (dk_at dksX0_twoRight_1 10 rfl rfl)
theorem dX0_twoRight_35 : decode cX0_twoRight 35 = .ok (.iload_n 1, 1) := dk_27 (dk_at dksX0_twoRight_1 11 rfl rfl)
theorem dX0_twoRight_36 : decode cX0_twoRight 36 = .ok (.iload_n 2, 1) := dk_28 (dk_at dksX0_twoRight_1 12 rfl rfl)
theorem dX0_twoRight_37 : decode cX0_twoRight 37 = .ok (.invokevirtual 437, 3) := dk_182 1 181 (dk_at dksX0_twoRight_1 13 rfl rfl)
theorem dX0_twoRight_40 : decode cX0_twoRight 40 = .ok (.ifCond .eq 5, 3) := dk_153 0 5 (dk_at dksX0_twoRight_1 16 rfl rfl)
theorem dX0_twoRight_43 : decode cX0_twoRight 43 = .ok (.iconst 1, 1) := dk_4 (dk_at dksX0_twoRight_1 19 rfl rfl)
theorem dX0_twoRight_44 : decode cX0_twoRight 44 = .ok (.ireturn, 1) := dk_172 (dk_at dksX0_twoRight_1 20 rfl rfl)
theorem dX0_twoRight_45 : decode cX0_twoRight 45 = .ok (.iinc 2 1, 3) := dk_132 2 1 (dk_at dksX0_twoRight_1 21 rfl rfl)
theorem dX0_twoRight_48 : decode cX0_twoRight 48 = .ok (.goto (-34), 3) := dk_167 255 222 (dk_at dksX0_twoRight_2 0 rfl rfl)
theorem dX0_twoRight_51 : decode cX0_twoRight 51 = .ok (.iinc 1 1, 3) := dk_132 1 1 (dk_at dksX0_twoRight_2 3 rfl rfl)
theorem dX0_twoRight_54 : decode cX0_twoRight 54 = .ok (.goto (-52), 3) := dk_167 255 204 (dk_at dksX0_twoRight_2 6 rfl rfl)
theorem dX0_twoRight_57 : decode cX0_twoRight 57 = .ok (.iconst 0, 1) := dk_3 (dk_at dksX0_twoRight_2 9 rfl rfl)
theorem dX0_twoRight_58 : decode cX0_twoRight 58 = .ok (.ireturn, 1) := dk_172 (dk_at dksX0_twoRight_2 10 rfl rfl)
abbrev cX0_pairRight : ByteArray := prog_1_method_58_code
def yX0_pairRight : MethodName := ⟨RX0, "pairRight", "(II)Z"⟩
def dkwX0_pairRight_7 : List UInt8 := [172]
abbrev dktX0_pairRight_7 : List UInt8 := dkwX0_pairRight_7 ++ []
def dkwX0_pairRight_6 : List UInt8 := [132, 5, 1, 167, 255, 145, 42, 180, 0, 90, 27, 29, 133, 80, 42, 180, 0, 90, 28, 21, 4, 133, 80, 3]
abbrev dktX0_pairRight_6 : List UInt8 := dkwX0_pairRight_6 ++ dktX0_pairRight_7
def dkwX0_pairRight_5 : List UInt8 := [46, 28, 42, 180, 0, 93, 4, 50, 21, 6, 46, 182, 1, 178, 4, 172, 132, 6, 1, 167, 255, 181]
abbrev dktX0_pairRight_5 : List UInt8 := dkwX0_pairRight_5 ++ dktX0_pairRight_6
def dkwX0_pairRight_4 : List UInt8 := [153, 0, 40, 42, 28, 182, 1, 175, 154, 0, 6, 167, 0, 29, 42, 27, 42, 180, 0, 93, 3, 50, 21, 5]
abbrev dktX0_pairRight_4 : List UInt8 := dkwX0_pairRight_4 ++ dktX0_pairRight_5
def dkwX0_pairRight_3 : List UInt8 := [162, 0, 70, 42, 180, 0, 90, 28, 42, 180, 0, 93, 4, 50, 21, 6, 46, 133, 80, 42, 27, 182, 1, 175]
abbrev dktX0_pairRight_3 : List UInt8 := dkwX0_pairRight_3 ++ dktX0_pairRight_4
def dkwX0_pairRight_2 : List UInt8 := [27, 42, 180, 0, 93, 3, 50, 21, 5, 46, 133, 80, 3, 54, 6, 21, 6, 42, 180, 0, 96, 4, 46]
abbrev dktX0_pairRight_2 : List UInt8 := dkwX0_pairRight_2 ++ dktX0_pairRight_3
def dkwX0_pairRight_1 : List UInt8 := [4, 21, 4, 182, 1, 172, 3, 54, 5, 21, 5, 42, 180, 0, 96, 3, 46, 162, 0, 106, 42, 180, 0, 90]
abbrev dktX0_pairRight_1 : List UInt8 := dkwX0_pairRight_1 ++ dktX0_pairRight_2
def dkwX0_pairRight_0 : List UInt8 := [42, 180, 0, 90, 27, 47, 136, 62, 42, 180, 0, 90, 28, 47, 136, 54, 4, 42, 3, 29, 182, 1, 172, 42]
abbrev dktX0_pairRight_0 : List UInt8 := dkwX0_pairRight_0 ++ dktX0_pairRight_1
theorem dksX0_pairRight_0 : cX0_pairRight.data.toList.drop 0 = dktX0_pairRight_0 := by decide +kernel
theorem dksX0_pairRight_1 : cX0_pairRight.data.toList.drop 24 = dktX0_pairRight_1 := dk_seg dksX0_pairRight_0 24 rfl rfl
theorem dksX0_pairRight_2 : cX0_pairRight.data.toList.drop 48 = dktX0_pairRight_2 := dk_seg dksX0_pairRight_1 24 rfl rfl
theorem dksX0_pairRight_3 : cX0_pairRight.data.toList.drop 71 = dktX0_pairRight_3 := dk_seg dksX0_pairRight_2 23 rfl rfl
theorem dksX0_pairRight_4 : cX0_pairRight.data.toList.drop 95 = dktX0_pairRight_4 := dk_seg dksX0_pairRight_3 24 rfl rfl
theorem dksX0_pairRight_5 : cX0_pairRight.data.toList.drop 119 = dktX0_pairRight_5 := dk_seg dksX0_pairRight_4 24 rfl rfl
theorem dksX0_pairRight_6 : cX0_pairRight.data.toList.drop 141 = dktX0_pairRight_6 := dk_seg dksX0_pairRight_5 22 rfl rfl
theorem dksX0_pairRight_7 : cX0_pairRight.data.toList.drop 165 = dktX0_pairRight_7 := dk_seg dksX0_pairRight_6 24 rfl rfl
theorem dX0_pairRight_0 : decode cX0_pairRight 0 = .ok (.aload_n 0, 1) := dk_42 (dk_at dksX0_pairRight_0 0 rfl rfl)
theorem dX0_pairRight_1 : decode cX0_pairRight 1 = .ok (.getfield 90, 3) := dk_180 0 90 (dk_at dksX0_pairRight_0 1 rfl rfl)
theorem dX0_pairRight_4 : decode cX0_pairRight 4 = .ok (.iload_n 1, 1) := dk_27 (dk_at dksX0_pairRight_0 4 rfl rfl)
theorem dX0_pairRight_5 : decode cX0_pairRight 5 = .ok (.laload, 1) := dk_47 (dk_at dksX0_pairRight_0 5 rfl rfl)
theorem dX0_pairRight_6 : decode cX0_pairRight 6 = .ok (.l2i, 1) := dk_136 (dk_at dksX0_pairRight_0 6 rfl rfl)
theorem dX0_pairRight_7 : decode cX0_pairRight 7 = .ok (.istore_n 3, 1) := dk_62 (dk_at dksX0_pairRight_0 7 rfl rfl)
theorem dX0_pairRight_8 : decode cX0_pairRight 8 = .ok (.aload_n 0, 1) := dk_42 (dk_at dksX0_pairRight_0 8 rfl rfl)
theorem dX0_pairRight_9 : decode cX0_pairRight 9 = .ok (.getfield 90, 3) := dk_180 0 90 (dk_at dksX0_pairRight_0 9 rfl rfl)
theorem dX0_pairRight_12 : decode cX0_pairRight 12 = .ok (.iload_n 2, 1) := dk_28 (dk_at dksX0_pairRight_0 12 rfl rfl)
theorem dX0_pairRight_13 : decode cX0_pairRight 13 = .ok (.laload, 1) := dk_47 (dk_at dksX0_pairRight_0 13 rfl rfl)
theorem dX0_pairRight_14 : decode cX0_pairRight 14 = .ok (.l2i, 1) := dk_136 (dk_at dksX0_pairRight_0 14 rfl rfl)
theorem dX0_pairRight_15 : decode cX0_pairRight 15 = .ok (.istore 4, 2) := dk_54 4 (dk_at dksX0_pairRight_0 15 rfl rfl)
theorem dX0_pairRight_17 : decode cX0_pairRight 17 = .ok (.aload_n 0, 1) := dk_42 (dk_at dksX0_pairRight_0 17 rfl rfl)
theorem dX0_pairRight_18 : decode cX0_pairRight 18 = .ok (.iconst 0, 1) := dk_3 (dk_at dksX0_pairRight_0 18 rfl rfl)
theorem dX0_pairRight_19 : decode cX0_pairRight 19 = .ok (.iload_n 3, 1) := dk_29 (dk_at dksX0_pairRight_0 19 rfl rfl)
theorem dX0_pairRight_20 : decode cX0_pairRight 20 = .ok (.invokevirtual 428, 3) := dk_182 1 172 (dk_at dksX0_pairRight_0 20 rfl rfl)
theorem dX0_pairRight_23 : decode cX0_pairRight 23 = .ok (.aload_n 0, 1) := dk_42 (dk_at dksX0_pairRight_0 23 rfl rfl)
theorem dX0_pairRight_24 : decode cX0_pairRight 24 = .ok (.iconst 1, 1) := dk_4 (dk_at dksX0_pairRight_1 0 rfl rfl)
theorem dX0_pairRight_25 : decode cX0_pairRight 25 = .ok (.iload 4, 2) := dk_21 4 (dk_at dksX0_pairRight_1 1 rfl rfl)
theorem dX0_pairRight_27 : decode cX0_pairRight 27 = .ok (.invokevirtual 428, 3) := dk_182 1 172 (dk_at dksX0_pairRight_1 3 rfl rfl)
theorem dX0_pairRight_30 : decode cX0_pairRight 30 = .ok (.iconst 0, 1) := dk_3 (dk_at dksX0_pairRight_1 6 rfl rfl)
theorem dX0_pairRight_31 : decode cX0_pairRight 31 = .ok (.istore 5, 2) := dk_54 5 (dk_at dksX0_pairRight_1 7 rfl rfl)
theorem dX0_pairRight_33 : decode cX0_pairRight 33 = .ok (.iload 5, 2) := dk_21 5 (dk_at dksX0_pairRight_1 9 rfl rfl)
theorem dX0_pairRight_35 : decode cX0_pairRight 35 = .ok (.aload_n 0, 1) := dk_42 (dk_at dksX0_pairRight_1 11 rfl rfl)
theorem dX0_pairRight_36 : decode cX0_pairRight 36 = .ok (.getfield 96, 3) := dk_180 0 96 (dk_at dksX0_pairRight_1 12 rfl rfl)
theorem dX0_pairRight_39 : decode cX0_pairRight 39 = .ok (.iconst 0, 1) := dk_3 (dk_at dksX0_pairRight_1 15 rfl rfl)
theorem dX0_pairRight_40 : decode cX0_pairRight 40 = .ok (.iaload, 1) := dk_46 (dk_at dksX0_pairRight_1 16 rfl rfl)
theorem dX0_pairRight_41 : decode cX0_pairRight 41 = .ok (.if_icmp .ge 106, 3) := dk_162 0 106 (dk_at dksX0_pairRight_1 17 rfl rfl)
theorem dX0_pairRight_44 : decode cX0_pairRight 44 = .ok (.aload_n 0, 1) := dk_42 (dk_at dksX0_pairRight_1 20 rfl rfl)
theorem dX0_pairRight_45 : decode cX0_pairRight 45 = .ok (.getfield 90, 3) := dk_180 0 90 (dk_at dksX0_pairRight_1 21 rfl rfl)
theorem dX0_pairRight_48 : decode cX0_pairRight 48 = .ok (.iload_n 1, 1) := dk_27 (dk_at dksX0_pairRight_2 0 rfl rfl)
theorem dX0_pairRight_49 : decode cX0_pairRight 49 = .ok (.aload_n 0, 1) := dk_42 (dk_at dksX0_pairRight_2 1 rfl rfl)
theorem dX0_pairRight_50 : decode cX0_pairRight 50 = .ok (.getfield 93, 3) := dk_180 0 93 (dk_at dksX0_pairRight_2 2 rfl rfl)
theorem dX0_pairRight_53 : decode cX0_pairRight 53 = .ok (.iconst 0, 1) := dk_3 (dk_at dksX0_pairRight_2 5 rfl rfl)
theorem dX0_pairRight_54 : decode cX0_pairRight 54 = .ok (.aaload, 1) := dk_50 (dk_at dksX0_pairRight_2 6 rfl rfl)
theorem dX0_pairRight_55 : decode cX0_pairRight 55 = .ok (.iload 5, 2) := dk_21 5 (dk_at dksX0_pairRight_2 7 rfl rfl)
theorem dX0_pairRight_57 : decode cX0_pairRight 57 = .ok (.iaload, 1) := dk_46 (dk_at dksX0_pairRight_2 9 rfl rfl)
theorem dX0_pairRight_58 : decode cX0_pairRight 58 = .ok (.i2l, 1) := dk_133 (dk_at dksX0_pairRight_2 10 rfl rfl)
theorem dX0_pairRight_59 : decode cX0_pairRight 59 = .ok (.lastore, 1) := dk_80 (dk_at dksX0_pairRight_2 11 rfl rfl)
theorem dX0_pairRight_60 : decode cX0_pairRight 60 = .ok (.iconst 0, 1) := dk_3 (dk_at dksX0_pairRight_2 12 rfl rfl)
theorem dX0_pairRight_61 : decode cX0_pairRight 61 = .ok (.istore 6, 2) := dk_54 6 (dk_at dksX0_pairRight_2 13 rfl rfl)
theorem dX0_pairRight_63 : decode cX0_pairRight 63 = .ok (.iload 6, 2) := dk_21 6 (dk_at dksX0_pairRight_2 15 rfl rfl)
theorem dX0_pairRight_65 : decode cX0_pairRight 65 = .ok (.aload_n 0, 1) := dk_42 (dk_at dksX0_pairRight_2 17 rfl rfl)
theorem dX0_pairRight_66 : decode cX0_pairRight 66 = .ok (.getfield 96, 3) := dk_180 0 96 (dk_at dksX0_pairRight_2 18 rfl rfl)
theorem dX0_pairRight_69 : decode cX0_pairRight 69 = .ok (.iconst 1, 1) := dk_4 (dk_at dksX0_pairRight_2 21 rfl rfl)
theorem dX0_pairRight_70 : decode cX0_pairRight 70 = .ok (.iaload, 1) := dk_46 (dk_at dksX0_pairRight_2 22 rfl rfl)
theorem dX0_pairRight_71 : decode cX0_pairRight 71 = .ok (.if_icmp .ge 70, 3) := dk_162 0 70 (dk_at dksX0_pairRight_3 0 rfl rfl)
theorem dX0_pairRight_74 : decode cX0_pairRight 74 = .ok (.aload_n 0, 1) := dk_42 (dk_at dksX0_pairRight_3 3 rfl rfl)
theorem dX0_pairRight_75 : decode cX0_pairRight 75 = .ok (.getfield 90, 3) := dk_180 0 90 (dk_at dksX0_pairRight_3 4 rfl rfl)
theorem dX0_pairRight_78 : decode cX0_pairRight 78 = .ok (.iload_n 2, 1) := dk_28 (dk_at dksX0_pairRight_3 7 rfl rfl)
theorem dX0_pairRight_79 : decode cX0_pairRight 79 = .ok (.aload_n 0, 1) := dk_42 (dk_at dksX0_pairRight_3 8 rfl rfl)
theorem dX0_pairRight_80 : decode cX0_pairRight 80 = .ok (.getfield 93, 3) := dk_180 0 93 (dk_at dksX0_pairRight_3 9 rfl rfl)
theorem dX0_pairRight_83 : decode cX0_pairRight 83 = .ok (.iconst 1, 1) := dk_4 (dk_at dksX0_pairRight_3 12 rfl rfl)
theorem dX0_pairRight_84 : decode cX0_pairRight 84 = .ok (.aaload, 1) := dk_50 (dk_at dksX0_pairRight_3 13 rfl rfl)
theorem dX0_pairRight_85 : decode cX0_pairRight 85 = .ok (.iload 6, 2) := dk_21 6 (dk_at dksX0_pairRight_3 14 rfl rfl)
theorem dX0_pairRight_87 : decode cX0_pairRight 87 = .ok (.iaload, 1) := dk_46 (dk_at dksX0_pairRight_3 16 rfl rfl)
theorem dX0_pairRight_88 : decode cX0_pairRight 88 = .ok (.i2l, 1) := dk_133 (dk_at dksX0_pairRight_3 17 rfl rfl)
theorem dX0_pairRight_89 : decode cX0_pairRight 89 = .ok (.lastore, 1) := dk_80 (dk_at dksX0_pairRight_3 18 rfl rfl)
theorem dX0_pairRight_90 : decode cX0_pairRight 90 = .ok (.aload_n 0, 1) := dk_42 (dk_at dksX0_pairRight_3 19 rfl rfl)
theorem dX0_pairRight_91 : decode cX0_pairRight 91 = .ok (.iload_n 1, 1) := dk_27 (dk_at dksX0_pairRight_3 20 rfl rfl)
theorem dX0_pairRight_92 : decode cX0_pairRight 92 = .ok (.invokevirtual 431, 3) := dk_182 1 175 (dk_at dksX0_pairRight_3 21 rfl rfl)
theorem dX0_pairRight_95 : decode cX0_pairRight 95 = .ok (.ifCond .eq 40, 3) := dk_153 0 40 (dk_at dksX0_pairRight_4 0 rfl rfl)
theorem dX0_pairRight_98 : decode cX0_pairRight 98 = .ok (.aload_n 0, 1) := dk_42 (dk_at dksX0_pairRight_4 3 rfl rfl)
theorem dX0_pairRight_99 : decode cX0_pairRight 99 = .ok (.iload_n 2, 1) := dk_28 (dk_at dksX0_pairRight_4 4 rfl rfl)
theorem dX0_pairRight_100 : decode cX0_pairRight 100 = .ok (.invokevirtual 431, 3) := dk_182 1 175 (dk_at dksX0_pairRight_4 5 rfl rfl)
theorem dX0_pairRight_103 : decode cX0_pairRight 103 = .ok (.ifCond .ne 6, 3) := dk_154 0 6 (dk_at dksX0_pairRight_4 8 rfl rfl)
theorem dX0_pairRight_106 : decode cX0_pairRight 106 = .ok (.goto 29, 3) := dk_167 0 29 (dk_at dksX0_pairRight_4 11 rfl rfl)
theorem dX0_pairRight_109 : decode cX0_pairRight 109 = .ok (.aload_n 0, 1) := dk_42 (dk_at dksX0_pairRight_4 14 rfl rfl)
theorem dX0_pairRight_110 : decode cX0_pairRight 110 = .ok (.iload_n 1, 1) := dk_27 (dk_at dksX0_pairRight_4 15 rfl rfl)
theorem dX0_pairRight_111 : decode cX0_pairRight 111 = .ok (.aload_n 0, 1) := dk_42 (dk_at dksX0_pairRight_4 16 rfl rfl)
theorem dX0_pairRight_112 : decode cX0_pairRight 112 = .ok (.getfield 93, 3) := dk_180 0 93 (dk_at dksX0_pairRight_4 17 rfl rfl)
theorem dX0_pairRight_115 : decode cX0_pairRight 115 = .ok (.iconst 0, 1) := dk_3 (dk_at dksX0_pairRight_4 20 rfl rfl)
theorem dX0_pairRight_116 : decode cX0_pairRight 116 = .ok (.aaload, 1) := dk_50 (dk_at dksX0_pairRight_4 21 rfl rfl)
theorem dX0_pairRight_117 : decode cX0_pairRight 117 = .ok (.iload 5, 2) := dk_21 5 (dk_at dksX0_pairRight_4 22 rfl rfl)
theorem dX0_pairRight_119 : decode cX0_pairRight 119 = .ok (.iaload, 1) := dk_46 (dk_at dksX0_pairRight_5 0 rfl rfl)
theorem dX0_pairRight_120 : decode cX0_pairRight 120 = .ok (.iload_n 2, 1) := dk_28 (dk_at dksX0_pairRight_5 1 rfl rfl)
theorem dX0_pairRight_121 : decode cX0_pairRight 121 = .ok (.aload_n 0, 1) := dk_42 (dk_at dksX0_pairRight_5 2 rfl rfl)
theorem dX0_pairRight_122 : decode cX0_pairRight 122 = .ok (.getfield 93, 3) := dk_180 0 93 (dk_at dksX0_pairRight_5 3 rfl rfl)
theorem dX0_pairRight_125 : decode cX0_pairRight 125 = .ok (.iconst 1, 1) := dk_4 (dk_at dksX0_pairRight_5 6 rfl rfl)
theorem dX0_pairRight_126 : decode cX0_pairRight 126 = .ok (.aaload, 1) := dk_50 (dk_at dksX0_pairRight_5 7 rfl rfl)
theorem dX0_pairRight_127 : decode cX0_pairRight 127 = .ok (.iload 6, 2) := dk_21 6 (dk_at dksX0_pairRight_5 8 rfl rfl)
theorem dX0_pairRight_129 : decode cX0_pairRight 129 = .ok (.iaload, 1) := dk_46 (dk_at dksX0_pairRight_5 10 rfl rfl)
theorem dX0_pairRight_130 : decode cX0_pairRight 130 = .ok (.invokevirtual 434, 3) := dk_182 1 178 (dk_at dksX0_pairRight_5 11 rfl rfl)
theorem dX0_pairRight_133 : decode cX0_pairRight 133 = .ok (.iconst 1, 1) := dk_4 (dk_at dksX0_pairRight_5 14 rfl rfl)
theorem dX0_pairRight_134 : decode cX0_pairRight 134 = .ok (.ireturn, 1) := dk_172 (dk_at dksX0_pairRight_5 15 rfl rfl)
theorem dX0_pairRight_135 : decode cX0_pairRight 135 = .ok (.iinc 6 1, 3) := dk_132 6 1 (dk_at dksX0_pairRight_5 16 rfl rfl)
theorem dX0_pairRight_138 : decode cX0_pairRight 138 = .ok (.goto (-75), 3) := dk_167 255 181 (dk_at dksX0_pairRight_5 19 rfl rfl)
theorem dX0_pairRight_141 : decode cX0_pairRight 141 = .ok (.iinc 5 1, 3) := dk_132 5 1 (dk_at dksX0_pairRight_6 0 rfl rfl)
theorem dX0_pairRight_144 : decode cX0_pairRight 144 = .ok (.goto (-111), 3) := dk_167 255 145 (dk_at dksX0_pairRight_6 3 rfl rfl)
theorem dX0_pairRight_147 : decode cX0_pairRight 147 = .ok (.aload_n 0, 1) := dk_42 (dk_at dksX0_pairRight_6 6 rfl rfl)
theorem dX0_pairRight_148 : decode cX0_pairRight 148 = .ok (.getfield 90, 3) := dk_180 0 90 (dk_at dksX0_pairRight_6 7 rfl rfl)
theorem dX0_pairRight_151 : decode cX0_pairRight 151 = .ok (.iload_n 1, 1) := dk_27 (dk_at dksX0_pairRight_6 10 rfl rfl)
theorem dX0_pairRight_152 : decode cX0_pairRight 152 = .ok (.iload_n 3, 1) := dk_29 (dk_at dksX0_pairRight_6 11 rfl rfl)
theorem dX0_pairRight_153 : decode cX0_pairRight 153 = .ok (.i2l, 1) := dk_133 (dk_at dksX0_pairRight_6 12 rfl rfl)
theorem dX0_pairRight_154 : decode cX0_pairRight 154 = .ok (.lastore, 1) := dk_80 (dk_at dksX0_pairRight_6 13 rfl rfl)
theorem dX0_pairRight_155 : decode cX0_pairRight 155 = .ok (.aload_n 0, 1) := dk_42 (dk_at dksX0_pairRight_6 14 rfl rfl)
theorem dX0_pairRight_156 : decode cX0_pairRight 156 = .ok (.getfield 90, 3) := dk_180 0 90 (dk_at dksX0_pairRight_6 15 rfl rfl)
theorem dX0_pairRight_159 : decode cX0_pairRight 159 = .ok (.iload_n 2, 1) := dk_28 (dk_at dksX0_pairRight_6 18 rfl rfl)
theorem dX0_pairRight_160 : decode cX0_pairRight 160 = .ok (.iload 4, 2) := dk_21 4 (dk_at dksX0_pairRight_6 19 rfl rfl)
theorem dX0_pairRight_162 : decode cX0_pairRight 162 = .ok (.i2l, 1) := dk_133 (dk_at dksX0_pairRight_6 21 rfl rfl)
theorem dX0_pairRight_163 : decode cX0_pairRight 163 = .ok (.lastore, 1) := dk_80 (dk_at dksX0_pairRight_6 22 rfl rfl)
theorem dX0_pairRight_164 : decode cX0_pairRight 164 = .ok (.iconst 0, 1) := dk_3 (dk_at dksX0_pairRight_6 23 rfl rfl)
theorem dX0_pairRight_165 : decode cX0_pairRight 165 = .ok (.ireturn, 1) := dk_172 (dk_at dksX0_pairRight_7 0 rfl rfl)
abbrev cX0_right : ByteArray := prog_1_method_60_code
def yX0_right : MethodName := ⟨RX0, "right", "(II)I"⟩
def dkwX0_right_2 : List UInt8 := [180, 0, 99, 27, 46, 167, 0, 9, 42, 180, 0, 102, 27, 46, 182, 0, 215, 172]
abbrev dktX0_right_2 : List UInt8 := dkwX0_right_2 ++ []
def dkwX0_right_1 : List UInt8 := [42, 180, 0, 99, 27, 46, 2, 160, 0, 10, 42, 16, 8, 182, 0, 169, 172, 42, 28, 154, 0, 12, 42]
abbrev dktX0_right_1 : List UInt8 := dkwX0_right_1 ++ dktX0_right_2
def dkwX0_right_0 : List UInt8 := [28, 155, 0, 8, 28, 4, 164, 0, 9, 42, 8, 182, 0, 169, 172, 27, 155, 0, 18, 27, 4, 163, 0, 13]
abbrev dktX0_right_0 : List UInt8 := dkwX0_right_0 ++ dktX0_right_1
theorem dksX0_right_0 : cX0_right.data.toList.drop 0 = dktX0_right_0 := by decide +kernel
theorem dksX0_right_1 : cX0_right.data.toList.drop 24 = dktX0_right_1 := dk_seg dksX0_right_0 24 rfl rfl
theorem dksX0_right_2 : cX0_right.data.toList.drop 47 = dktX0_right_2 := dk_seg dksX0_right_1 23 rfl rfl
theorem dX0_right_0 : decode cX0_right 0 = .ok (.iload_n 2, 1) := dk_28 (dk_at dksX0_right_0 0 rfl rfl)
theorem dX0_right_1 : decode cX0_right 1 = .ok (.ifCond .lt 8, 3) := dk_155 0 8 (dk_at dksX0_right_0 1 rfl rfl)
theorem dX0_right_4 : decode cX0_right 4 = .ok (.iload_n 2, 1) := dk_28 (dk_at dksX0_right_0 4 rfl rfl)
theorem dX0_right_5 : decode cX0_right 5 = .ok (.iconst 1, 1) := dk_4 (dk_at dksX0_right_0 5 rfl rfl)
theorem dX0_right_6 : decode cX0_right 6 = .ok (.if_icmp .le 9, 3) := dk_164 0 9 (dk_at dksX0_right_0 6 rfl rfl)
theorem dX0_right_9 : decode cX0_right 9 = .ok (.aload_n 0, 1) := dk_42 (dk_at dksX0_right_0 9 rfl rfl)
theorem dX0_right_10 : decode cX0_right 10 = .ok (.iconst 5, 1) := dk_8 (dk_at dksX0_right_0 10 rfl rfl)
theorem dX0_right_11 : decode cX0_right 11 = .ok (.invokevirtual 169, 3) := dk_182 0 169 (dk_at dksX0_right_0 11 rfl rfl)
theorem dX0_right_14 : decode cX0_right 14 = .ok (.ireturn, 1) := dk_172 (dk_at dksX0_right_0 14 rfl rfl)
theorem dX0_right_15 : decode cX0_right 15 = .ok (.iload_n 1, 1) := dk_27 (dk_at dksX0_right_0 15 rfl rfl)
theorem dX0_right_16 : decode cX0_right 16 = .ok (.ifCond .lt 18, 3) := dk_155 0 18 (dk_at dksX0_right_0 16 rfl rfl)
theorem dX0_right_19 : decode cX0_right 19 = .ok (.iload_n 1, 1) := dk_27 (dk_at dksX0_right_0 19 rfl rfl)
theorem dX0_right_20 : decode cX0_right 20 = .ok (.iconst 1, 1) := dk_4 (dk_at dksX0_right_0 20 rfl rfl)
theorem dX0_right_21 : decode cX0_right 21 = .ok (.if_icmp .gt 13, 3) := dk_163 0 13 (dk_at dksX0_right_0 21 rfl rfl)
theorem dX0_right_24 : decode cX0_right 24 = .ok (.aload_n 0, 1) := dk_42 (dk_at dksX0_right_1 0 rfl rfl)
theorem dX0_right_25 : decode cX0_right 25 = .ok (.getfield 99, 3) := dk_180 0 99 (dk_at dksX0_right_1 1 rfl rfl)
theorem dX0_right_28 : decode cX0_right 28 = .ok (.iload_n 1, 1) := dk_27 (dk_at dksX0_right_1 4 rfl rfl)
theorem dX0_right_29 : decode cX0_right 29 = .ok (.iaload, 1) := dk_46 (dk_at dksX0_right_1 5 rfl rfl)
theorem dX0_right_30 : decode cX0_right 30 = .ok (.iconst (-1), 1) := dk_2 (dk_at dksX0_right_1 6 rfl rfl)
theorem dX0_right_31 : decode cX0_right 31 = .ok (.if_icmp .ne 10, 3) := dk_160 0 10 (dk_at dksX0_right_1 7 rfl rfl)
theorem dX0_right_34 : decode cX0_right 34 = .ok (.aload_n 0, 1) := dk_42 (dk_at dksX0_right_1 10 rfl rfl)
theorem dX0_right_35 : decode cX0_right 35 = .ok (.bipush 8, 2) := dk_16 8 (dk_at dksX0_right_1 11 rfl rfl)
theorem dX0_right_37 : decode cX0_right 37 = .ok (.invokevirtual 169, 3) := dk_182 0 169 (dk_at dksX0_right_1 13 rfl rfl)
theorem dX0_right_40 : decode cX0_right 40 = .ok (.ireturn, 1) := dk_172 (dk_at dksX0_right_1 16 rfl rfl)
theorem dX0_right_41 : decode cX0_right 41 = .ok (.aload_n 0, 1) := dk_42 (dk_at dksX0_right_1 17 rfl rfl)
theorem dX0_right_42 : decode cX0_right 42 = .ok (.iload_n 2, 1) := dk_28 (dk_at dksX0_right_1 18 rfl rfl)
theorem dX0_right_43 : decode cX0_right 43 = .ok (.ifCond .ne 12, 3) := dk_154 0 12 (dk_at dksX0_right_1 19 rfl rfl)
theorem dX0_right_46 : decode cX0_right 46 = .ok (.aload_n 0, 1) := dk_42 (dk_at dksX0_right_1 22 rfl rfl)
theorem dX0_right_47 : decode cX0_right 47 = .ok (.getfield 99, 3) := dk_180 0 99 (dk_at dksX0_right_2 0 rfl rfl)
theorem dX0_right_50 : decode cX0_right 50 = .ok (.iload_n 1, 1) := dk_27 (dk_at dksX0_right_2 3 rfl rfl)
theorem dX0_right_51 : decode cX0_right 51 = .ok (.iaload, 1) := dk_46 (dk_at dksX0_right_2 4 rfl rfl)
theorem dX0_right_52 : decode cX0_right 52 = .ok (.goto 9, 3) := dk_167 0 9 (dk_at dksX0_right_2 5 rfl rfl)
theorem dX0_right_55 : decode cX0_right 55 = .ok (.aload_n 0, 1) := dk_42 (dk_at dksX0_right_2 8 rfl rfl)
theorem dX0_right_56 : decode cX0_right 56 = .ok (.getfield 102, 3) := dk_180 0 102 (dk_at dksX0_right_2 9 rfl rfl)
theorem dX0_right_59 : decode cX0_right 59 = .ok (.iload_n 1, 1) := dk_27 (dk_at dksX0_right_2 12 rfl rfl)
theorem dX0_right_60 : decode cX0_right 60 = .ok (.iaload, 1) := dk_46 (dk_at dksX0_right_2 13 rfl rfl)
theorem dX0_right_61 : decode cX0_right 61 = .ok (.invokevirtual 215, 3) := dk_182 0 215 (dk_at dksX0_right_2 14 rfl rfl)
theorem dX0_right_64 : decode cX0_right 64 = .ok (.ireturn, 1) := dk_172 (dk_at dksX0_right_2 17 rfl rfl)
abbrev cX0_cast : ByteArray := prog_1_method_64_code
def yX0_cast : MethodName := ⟨RX0, "cast", "(III)Z"⟩
def dkwX0_cast_4 : List UInt8 := [4, 96, 181, 1, 204, 42, 3, 182, 0, 152, 172]
abbrev dktX0_cast_4 : List UInt8 := dkwX0_cast_4 ++ []
def dkwX0_cast_3 : List UInt8 := [180, 0, 105, 42, 180, 1, 204, 28, 79, 42, 180, 0, 108, 42, 180, 1, 204, 29, 79, 42, 89, 180, 1, 204]
abbrev dktX0_cast_3 : List UInt8 := dkwX0_cast_3 ++ dktX0_cast_4
def dkwX0_cast_2 : List UInt8 := [172, 27, 42, 180, 1, 207, 162, 0, 10, 42, 16, 12, 182, 0, 152, 172, 42, 27, 181, 1, 207, 42]
abbrev dktX0_cast_2 : List UInt8 := dkwX0_cast_2 ++ dktX0_cast_3
def dkwX0_cast_1 : List UInt8 := [154, 0, 9, 42, 8, 182, 0, 152, 172, 42, 180, 1, 204, 16, 100, 160, 0, 10, 42, 16, 7, 182, 0, 152]
abbrev dktX0_cast_1 : List UInt8 := dkwX0_cast_1 ++ dktX0_cast_2
def dkwX0_cast_0 : List UInt8 := [28, 184, 1, 195, 154, 0, 9, 42, 5, 182, 0, 152, 172, 27, 184, 1, 198, 153, 0, 10, 29, 184, 1, 201]
abbrev dktX0_cast_0 : List UInt8 := dkwX0_cast_0 ++ dktX0_cast_1
theorem dksX0_cast_0 : cX0_cast.data.toList.drop 0 = dktX0_cast_0 := by decide +kernel
theorem dksX0_cast_1 : cX0_cast.data.toList.drop 24 = dktX0_cast_1 := dk_seg dksX0_cast_0 24 rfl rfl
theorem dksX0_cast_2 : cX0_cast.data.toList.drop 48 = dktX0_cast_2 := dk_seg dksX0_cast_1 24 rfl rfl
theorem dksX0_cast_3 : cX0_cast.data.toList.drop 70 = dktX0_cast_3 := dk_seg dksX0_cast_2 22 rfl rfl
theorem dksX0_cast_4 : cX0_cast.data.toList.drop 94 = dktX0_cast_4 := dk_seg dksX0_cast_3 24 rfl rfl
theorem dX0_cast_0 : decode cX0_cast 0 = .ok (.iload_n 2, 1) := dk_28 (dk_at dksX0_cast_0 0 rfl rfl)
theorem dX0_cast_1 : decode cX0_cast 1 = .ok (.invokestatic 451, 3) := dk_184 1 195 (dk_at dksX0_cast_0 1 rfl rfl)
theorem dX0_cast_4 : decode cX0_cast 4 = .ok (.ifCond .ne 9, 3) := dk_154 0 9 (dk_at dksX0_cast_0 4 rfl rfl)
theorem dX0_cast_7 : decode cX0_cast 7 = .ok (.aload_n 0, 1) := dk_42 (dk_at dksX0_cast_0 7 rfl rfl)
theorem dX0_cast_8 : decode cX0_cast 8 = .ok (.iconst 2, 1) := dk_5 (dk_at dksX0_cast_0 8 rfl rfl)
theorem dX0_cast_9 : decode cX0_cast 9 = .ok (.invokevirtual 152, 3) := dk_182 0 152 (dk_at dksX0_cast_0 9 rfl rfl)
theorem dX0_cast_12 : decode cX0_cast 12 = .ok (.ireturn, 1) := dk_172 (dk_at dksX0_cast_0 12 rfl rfl)
theorem dX0_cast_13 : decode cX0_cast 13 = .ok (.iload_n 1, 1) := dk_27 (dk_at dksX0_cast_0 13 rfl rfl)
theorem dX0_cast_14 : decode cX0_cast 14 = .ok (.invokestatic 454, 3) := dk_184 1 198 (dk_at dksX0_cast_0 14 rfl rfl)
theorem dX0_cast_17 : decode cX0_cast 17 = .ok (.ifCond .eq 10, 3) := dk_153 0 10 (dk_at dksX0_cast_0 17 rfl rfl)
theorem dX0_cast_20 : decode cX0_cast 20 = .ok (.iload_n 3, 1) := dk_29 (dk_at dksX0_cast_0 20 rfl rfl)
theorem dX0_cast_21 : decode cX0_cast 21 = .ok (.invokestatic 457, 3) := dk_184 1 201 (dk_at dksX0_cast_0 21 rfl rfl)
theorem dX0_cast_24 : decode cX0_cast 24 = .ok (.ifCond .ne 9, 3) := dk_154 0 9 (dk_at dksX0_cast_1 0 rfl rfl)
theorem dX0_cast_27 : decode cX0_cast 27 = .ok (.aload_n 0, 1) := dk_42 (dk_at dksX0_cast_1 3 rfl rfl)
theorem dX0_cast_28 : decode cX0_cast 28 = .ok (.iconst 5, 1) := dk_8 (dk_at dksX0_cast_1 4 rfl rfl)
theorem dX0_cast_29 : decode cX0_cast 29 = .ok (.invokevirtual 152, 3) := dk_182 0 152 (dk_at dksX0_cast_1 5 rfl rfl)
theorem dX0_cast_32 : decode cX0_cast 32 = .ok (.ireturn, 1) := dk_172 (dk_at dksX0_cast_1 8 rfl rfl)
theorem dX0_cast_33 : decode cX0_cast 33 = .ok (.aload_n 0, 1) := dk_42 (dk_at dksX0_cast_1 9 rfl rfl)
theorem dX0_cast_34 : decode cX0_cast 34 = .ok (.getfield 460, 3) := dk_180 1 204 (dk_at dksX0_cast_1 10 rfl rfl)
theorem dX0_cast_37 : decode cX0_cast 37 = .ok (.bipush 100, 2) := dk_16 100 (dk_at dksX0_cast_1 13 rfl rfl)
theorem dX0_cast_39 : decode cX0_cast 39 = .ok (.if_icmp .ne 10, 3) := dk_160 0 10 (dk_at dksX0_cast_1 15 rfl rfl)
theorem dX0_cast_42 : decode cX0_cast 42 = .ok (.aload_n 0, 1) := dk_42 (dk_at dksX0_cast_1 18 rfl rfl)
theorem dX0_cast_43 : decode cX0_cast 43 = .ok (.bipush 7, 2) := dk_16 7 (dk_at dksX0_cast_1 19 rfl rfl)
theorem dX0_cast_45 : decode cX0_cast 45 = .ok (.invokevirtual 152, 3) := dk_182 0 152 (dk_at dksX0_cast_1 21 rfl rfl)
theorem dX0_cast_48 : decode cX0_cast 48 = .ok (.ireturn, 1) := dk_172 (dk_at dksX0_cast_2 0 rfl rfl)
theorem dX0_cast_49 : decode cX0_cast 49 = .ok (.iload_n 1, 1) := dk_27 (dk_at dksX0_cast_2 1 rfl rfl)
theorem dX0_cast_50 : decode cX0_cast 50 = .ok (.aload_n 0, 1) := dk_42 (dk_at dksX0_cast_2 2 rfl rfl)
theorem dX0_cast_51 : decode cX0_cast 51 = .ok (.getfield 463, 3) := dk_180 1 207 (dk_at dksX0_cast_2 3 rfl rfl)
theorem dX0_cast_54 : decode cX0_cast 54 = .ok (.if_icmp .ge 10, 3) := dk_162 0 10 (dk_at dksX0_cast_2 6 rfl rfl)
theorem dX0_cast_57 : decode cX0_cast 57 = .ok (.aload_n 0, 1) := dk_42 (dk_at dksX0_cast_2 9 rfl rfl)
theorem dX0_cast_58 : decode cX0_cast 58 = .ok (.bipush 12, 2) := dk_16 12 (dk_at dksX0_cast_2 10 rfl rfl)
theorem dX0_cast_60 : decode cX0_cast 60 = .ok (.invokevirtual 152, 3) := dk_182 0 152 (dk_at dksX0_cast_2 12 rfl rfl)
theorem dX0_cast_63 : decode cX0_cast 63 = .ok (.ireturn, 1) := dk_172 (dk_at dksX0_cast_2 15 rfl rfl)
theorem dX0_cast_64 : decode cX0_cast 64 = .ok (.aload_n 0, 1) := dk_42 (dk_at dksX0_cast_2 16 rfl rfl)
theorem dX0_cast_65 : decode cX0_cast 65 = .ok (.iload_n 1, 1) := dk_27 (dk_at dksX0_cast_2 17 rfl rfl)
theorem dX0_cast_66 : decode cX0_cast 66 = .ok (.putfield 463, 3) := dk_181 1 207 (dk_at dksX0_cast_2 18 rfl rfl)
theorem dX0_cast_69 : decode cX0_cast 69 = .ok (.aload_n 0, 1) := dk_42 (dk_at dksX0_cast_2 21 rfl rfl)
theorem dX0_cast_70 : decode cX0_cast 70 = .ok (.getfield 105, 3) := dk_180 0 105 (dk_at dksX0_cast_3 0 rfl rfl)
theorem dX0_cast_73 : decode cX0_cast 73 = .ok (.aload_n 0, 1) := dk_42 (dk_at dksX0_cast_3 3 rfl rfl)
theorem dX0_cast_74 : decode cX0_cast 74 = .ok (.getfield 460, 3) := dk_180 1 204 (dk_at dksX0_cast_3 4 rfl rfl)
theorem dX0_cast_77 : decode cX0_cast 77 = .ok (.iload_n 2, 1) := dk_28 (dk_at dksX0_cast_3 7 rfl rfl)
theorem dX0_cast_78 : decode cX0_cast 78 = .ok (.iastore, 1) := dk_79 (dk_at dksX0_cast_3 8 rfl rfl)
theorem dX0_cast_79 : decode cX0_cast 79 = .ok (.aload_n 0, 1) := dk_42 (dk_at dksX0_cast_3 9 rfl rfl)
theorem dX0_cast_80 : decode cX0_cast 80 = .ok (.getfield 108, 3) := dk_180 0 108 (dk_at dksX0_cast_3 10 rfl rfl)
theorem dX0_cast_83 : decode cX0_cast 83 = .ok (.aload_n 0, 1) := dk_42 (dk_at dksX0_cast_3 13 rfl rfl)
theorem dX0_cast_84 : decode cX0_cast 84 = .ok (.getfield 460, 3) := dk_180 1 204 (dk_at dksX0_cast_3 14 rfl rfl)
theorem dX0_cast_87 : decode cX0_cast 87 = .ok (.iload_n 3, 1) := dk_29 (dk_at dksX0_cast_3 17 rfl rfl)
theorem dX0_cast_88 : decode cX0_cast 88 = .ok (.iastore, 1) := dk_79 (dk_at dksX0_cast_3 18 rfl rfl)
theorem dX0_cast_89 : decode cX0_cast 89 = .ok (.aload_n 0, 1) := dk_42 (dk_at dksX0_cast_3 19 rfl rfl)
theorem dX0_cast_90 : decode cX0_cast 90 = .ok (.dup, 1) := dk_89 (dk_at dksX0_cast_3 20 rfl rfl)
theorem dX0_cast_91 : decode cX0_cast 91 = .ok (.getfield 460, 3) := dk_180 1 204 (dk_at dksX0_cast_3 21 rfl rfl)
theorem dX0_cast_94 : decode cX0_cast 94 = .ok (.iconst 1, 1) := dk_4 (dk_at dksX0_cast_4 0 rfl rfl)
theorem dX0_cast_95 : decode cX0_cast 95 = .ok (.iadd, 1) := dk_96 (dk_at dksX0_cast_4 1 rfl rfl)
theorem dX0_cast_96 : decode cX0_cast 96 = .ok (.putfield 460, 3) := dk_181 1 204 (dk_at dksX0_cast_4 2 rfl rfl)
theorem dX0_cast_99 : decode cX0_cast 99 = .ok (.aload_n 0, 1) := dk_42 (dk_at dksX0_cast_4 5 rfl rfl)
theorem dX0_cast_100 : decode cX0_cast 100 = .ok (.iconst 0, 1) := dk_3 (dk_at dksX0_cast_4 6 rfl rfl)
theorem dX0_cast_101 : decode cX0_cast 101 = .ok (.invokevirtual 152, 3) := dk_182 0 152 (dk_at dksX0_cast_4 7 rfl rfl)
theorem dX0_cast_104 : decode cX0_cast 104 = .ok (.ireturn, 1) := dk_172 (dk_at dksX0_cast_4 10 rfl rfl)
abbrev cX0_isRow : ByteArray := prog_1_method_62_code
def yX0_isRow : MethodName := ⟨RX0, "isRow", "(I)Z"⟩
def dkwX0_isRow_0 : List UInt8 := [26, 155, 0, 13, 26, 16, 40, 162, 0, 7, 4, 167, 0, 4, 3, 172]
abbrev dktX0_isRow_0 : List UInt8 := dkwX0_isRow_0 ++ []
theorem dksX0_isRow_0 : cX0_isRow.data.toList.drop 0 = dktX0_isRow_0 := by decide +kernel
theorem dX0_isRow_0 : decode cX0_isRow 0 = .ok (.iload_n 0, 1) := dk_26 (dk_at dksX0_isRow_0 0 rfl rfl)
theorem dX0_isRow_1 : decode cX0_isRow 1 = .ok (.ifCond .lt 13, 3) := dk_155 0 13 (dk_at dksX0_isRow_0 1 rfl rfl)
theorem dX0_isRow_4 : decode cX0_isRow 4 = .ok (.iload_n 0, 1) := dk_26 (dk_at dksX0_isRow_0 4 rfl rfl)
theorem dX0_isRow_5 : decode cX0_isRow 5 = .ok (.bipush 40, 2) := dk_16 40 (dk_at dksX0_isRow_0 5 rfl rfl)
theorem dX0_isRow_7 : decode cX0_isRow 7 = .ok (.if_icmp .ge 7, 3) := dk_162 0 7 (dk_at dksX0_isRow_0 7 rfl rfl)
theorem dX0_isRow_10 : decode cX0_isRow 10 = .ok (.iconst 1, 1) := dk_4 (dk_at dksX0_isRow_0 10 rfl rfl)
theorem dX0_isRow_11 : decode cX0_isRow 11 = .ok (.goto 4, 3) := dk_167 0 4 (dk_at dksX0_isRow_0 11 rfl rfl)
theorem dX0_isRow_14 : decode cX0_isRow 14 = .ok (.iconst 0, 1) := dk_3 (dk_at dksX0_isRow_0 14 rfl rfl)
theorem dX0_isRow_15 : decode cX0_isRow 15 = .ok (.ireturn, 1) := dk_172 (dk_at dksX0_isRow_0 15 rfl rfl)
abbrev cX0_isDay : ByteArray := prog_1_method_61_code
def yX0_isDay : MethodName := ⟨RX0, "isDay", "(I)Z"⟩
def dkwX0_isDay_0 : List UInt8 := [26, 155, 0, 14, 26, 17, 39, 15, 163, 0, 7, 4, 167, 0, 4, 3, 172]
abbrev dktX0_isDay_0 : List UInt8 := dkwX0_isDay_0 ++ []
theorem dksX0_isDay_0 : cX0_isDay.data.toList.drop 0 = dktX0_isDay_0 := by decide +kernel
theorem dX0_isDay_0 : decode cX0_isDay 0 = .ok (.iload_n 0, 1) := dk_26 (dk_at dksX0_isDay_0 0 rfl rfl)
theorem dX0_isDay_1 : decode cX0_isDay 1 = .ok (.ifCond .lt 14, 3) := dk_155 0 14 (dk_at dksX0_isDay_0 1 rfl rfl)
theorem dX0_isDay_4 : decode cX0_isDay 4 = .ok (.iload_n 0, 1) := dk_26 (dk_at dksX0_isDay_0 4 rfl rfl)
theorem dX0_isDay_5 : decode cX0_isDay 5 = .ok (.sipush 9999, 3) := dk_17 39 15 (dk_at dksX0_isDay_0 5 rfl rfl)
theorem dX0_isDay_8 : decode cX0_isDay 8 = .ok (.if_icmp .gt 7, 3) := dk_163 0 7 (dk_at dksX0_isDay_0 8 rfl rfl)
theorem dX0_isDay_11 : decode cX0_isDay 11 = .ok (.iconst 1, 1) := dk_4 (dk_at dksX0_isDay_0 11 rfl rfl)
theorem dX0_isDay_12 : decode cX0_isDay 12 = .ok (.goto 4, 3) := dk_167 0 4 (dk_at dksX0_isDay_0 12 rfl rfl)
theorem dX0_isDay_15 : decode cX0_isDay 15 = .ok (.iconst 0, 1) := dk_3 (dk_at dksX0_isDay_0 15 rfl rfl)
theorem dX0_isDay_16 : decode cX0_isDay 16 = .ok (.ireturn, 1) := dk_172 (dk_at dksX0_isDay_0 16 rfl rfl)
abbrev cX0_isNumber : ByteArray := prog_1_method_63_code
def yX0_isNumber : MethodName := ⟨RX0, "isNumber", "(I)Z"⟩
def dkwX0_isNumber_0 : List UInt8 := [26, 19, 1, 193, 161, 0, 14, 26, 19, 1, 194, 163, 0, 7, 4, 167, 0, 4, 3, 172]
abbrev dktX0_isNumber_0 : List UInt8 := dkwX0_isNumber_0 ++ []
theorem dksX0_isNumber_0 : cX0_isNumber.data.toList.drop 0 = dktX0_isNumber_0 := by decide +kernel
theorem dX0_isNumber_0 : decode cX0_isNumber 0 = .ok (.iload_n 0, 1) := dk_26 (dk_at dksX0_isNumber_0 0 rfl rfl)
theorem dX0_isNumber_1 : decode cX0_isNumber 1 = .ok (.ldc_w 449, 3) := dk_19 1 193 (dk_at dksX0_isNumber_0 1 rfl rfl)
theorem dX0_isNumber_4 : decode cX0_isNumber 4 = .ok (.if_icmp .lt 14, 3) := dk_161 0 14 (dk_at dksX0_isNumber_0 4 rfl rfl)
theorem dX0_isNumber_7 : decode cX0_isNumber 7 = .ok (.iload_n 0, 1) := dk_26 (dk_at dksX0_isNumber_0 7 rfl rfl)
theorem dX0_isNumber_8 : decode cX0_isNumber 8 = .ok (.ldc_w 450, 3) := dk_19 1 194 (dk_at dksX0_isNumber_0 8 rfl rfl)
theorem dX0_isNumber_11 : decode cX0_isNumber 11 = .ok (.if_icmp .gt 7, 3) := dk_163 0 7 (dk_at dksX0_isNumber_0 11 rfl rfl)
theorem dX0_isNumber_14 : decode cX0_isNumber 14 = .ok (.iconst 1, 1) := dk_4 (dk_at dksX0_isNumber_0 14 rfl rfl)
theorem dX0_isNumber_15 : decode cX0_isNumber 15 = .ok (.goto 4, 3) := dk_167 0 4 (dk_at dksX0_isNumber_0 15 rfl rfl)
theorem dX0_isNumber_18 : decode cX0_isNumber 18 = .ok (.iconst 0, 1) := dk_3 (dk_at dksX0_isNumber_0 18 rfl rfl)
theorem dX0_isNumber_19 : decode cX0_isNumber 19 = .ok (.ireturn, 1) := dk_172 (dk_at dksX0_isNumber_0 19 rfl rfl)
abbrev cX0_print : ByteArray := prog_1_method_66_code
def yX0_print : MethodName := ⟨RX0, "print", "(II)I"⟩
def dkwX0_print_4 : List UInt8 := [180, 1, 210, 4, 96, 181, 1, 210, 42, 29, 182, 0, 215, 172]
abbrev dktX0_print_4 : List UInt8 := dkwX0_print_4 ++ []
def dkwX0_print_3 : List UInt8 := [180, 0, 111, 42, 180, 1, 210, 42, 180, 1, 204, 79, 42, 180, 0, 114, 42, 180, 1, 210, 29, 79, 42, 89]
abbrev dktX0_print_3 : List UInt8 := dkwX0_print_3 ++ dktX0_print_4
def dkwX0_print_2 : List UInt8 := [162, 0, 10, 42, 16, 12, 182, 0, 169, 172, 42, 27, 181, 1, 207, 42, 182, 1, 213, 28, 96, 62, 42]
abbrev dktX0_print_2 : List UInt8 := dkwX0_print_2 ++ dktX0_print_3
def dkwX0_print_1 : List UInt8 := [172, 42, 180, 1, 210, 16, 20, 160, 0, 10, 42, 16, 7, 182, 0, 169, 172, 27, 42, 180, 1, 207]
abbrev dktX0_print_1 : List UInt8 := dkwX0_print_1 ++ dktX0_print_2
def dkwX0_print_0 : List UInt8 := [27, 184, 1, 198, 153, 0, 15, 28, 4, 161, 0, 10, 28, 17, 3, 232, 164, 0, 9, 42, 8, 182, 0, 169]
abbrev dktX0_print_0 : List UInt8 := dkwX0_print_0 ++ dktX0_print_1
theorem dksX0_print_0 : cX0_print.data.toList.drop 0 = dktX0_print_0 := by decide +kernel
theorem dksX0_print_1 : cX0_print.data.toList.drop 24 = dktX0_print_1 := dk_seg dksX0_print_0 24 rfl rfl
theorem dksX0_print_2 : cX0_print.data.toList.drop 46 = dktX0_print_2 := dk_seg dksX0_print_1 22 rfl rfl
theorem dksX0_print_3 : cX0_print.data.toList.drop 69 = dktX0_print_3 := dk_seg dksX0_print_2 23 rfl rfl
theorem dksX0_print_4 : cX0_print.data.toList.drop 93 = dktX0_print_4 := dk_seg dksX0_print_3 24 rfl rfl
theorem dX0_print_0 : decode cX0_print 0 = .ok (.iload_n 1, 1) := dk_27 (dk_at dksX0_print_0 0 rfl rfl)
theorem dX0_print_1 : decode cX0_print 1 = .ok (.invokestatic 454, 3) := dk_184 1 198 (dk_at dksX0_print_0 1 rfl rfl)
theorem dX0_print_4 : decode cX0_print 4 = .ok (.ifCond .eq 15, 3) := dk_153 0 15 (dk_at dksX0_print_0 4 rfl rfl)
theorem dX0_print_7 : decode cX0_print 7 = .ok (.iload_n 2, 1) := dk_28 (dk_at dksX0_print_0 7 rfl rfl)
theorem dX0_print_8 : decode cX0_print 8 = .ok (.iconst 1, 1) := dk_4 (dk_at dksX0_print_0 8 rfl rfl)
theorem dX0_print_9 : decode cX0_print 9 = .ok (.if_icmp .lt 10, 3) := dk_161 0 10 (dk_at dksX0_print_0 9 rfl rfl)
theorem dX0_print_12 : decode cX0_print 12 = .ok (.iload_n 2, 1) := dk_28 (dk_at dksX0_print_0 12 rfl rfl)
theorem dX0_print_13 : decode cX0_print 13 = .ok (.sipush 1000, 3) := dk_17 3 232 (dk_at dksX0_print_0 13 rfl rfl)
theorem dX0_print_16 : decode cX0_print 16 = .ok (.if_icmp .le 9, 3) := dk_164 0 9 (dk_at dksX0_print_0 16 rfl rfl)
theorem dX0_print_19 : decode cX0_print 19 = .ok (.aload_n 0, 1) := dk_42 (dk_at dksX0_print_0 19 rfl rfl)
theorem dX0_print_20 : decode cX0_print 20 = .ok (.iconst 5, 1) := dk_8 (dk_at dksX0_print_0 20 rfl rfl)
theorem dX0_print_21 : decode cX0_print 21 = .ok (.invokevirtual 169, 3) := dk_182 0 169 (dk_at dksX0_print_0 21 rfl rfl)
theorem dX0_print_24 : decode cX0_print 24 = .ok (.ireturn, 1) := dk_172 (dk_at dksX0_print_1 0 rfl rfl)
theorem dX0_print_25 : decode cX0_print 25 = .ok (.aload_n 0, 1) := dk_42 (dk_at dksX0_print_1 1 rfl rfl)
theorem dX0_print_26 : decode cX0_print 26 = .ok (.getfield 466, 3) := dk_180 1 210 (dk_at dksX0_print_1 2 rfl rfl)
theorem dX0_print_29 : decode cX0_print 29 = .ok (.bipush 20, 2) := dk_16 20 (dk_at dksX0_print_1 5 rfl rfl)
theorem dX0_print_31 : decode cX0_print 31 = .ok (.if_icmp .ne 10, 3) := dk_160 0 10 (dk_at dksX0_print_1 7 rfl rfl)
theorem dX0_print_34 : decode cX0_print 34 = .ok (.aload_n 0, 1) := dk_42 (dk_at dksX0_print_1 10 rfl rfl)
theorem dX0_print_35 : decode cX0_print 35 = .ok (.bipush 7, 2) := dk_16 7 (dk_at dksX0_print_1 11 rfl rfl)
theorem dX0_print_37 : decode cX0_print 37 = .ok (.invokevirtual 169, 3) := dk_182 0 169 (dk_at dksX0_print_1 13 rfl rfl)
theorem dX0_print_40 : decode cX0_print 40 = .ok (.ireturn, 1) := dk_172 (dk_at dksX0_print_1 16 rfl rfl)
theorem dX0_print_41 : decode cX0_print 41 = .ok (.iload_n 1, 1) := dk_27 (dk_at dksX0_print_1 17 rfl rfl)
theorem dX0_print_42 : decode cX0_print 42 = .ok (.aload_n 0, 1) := dk_42 (dk_at dksX0_print_1 18 rfl rfl)
theorem dX0_print_43 : decode cX0_print 43 = .ok (.getfield 463, 3) := dk_180 1 207 (dk_at dksX0_print_1 19 rfl rfl)
theorem dX0_print_46 : decode cX0_print 46 = .ok (.if_icmp .ge 10, 3) := dk_162 0 10 (dk_at dksX0_print_2 0 rfl rfl)
theorem dX0_print_49 : decode cX0_print 49 = .ok (.aload_n 0, 1) := dk_42 (dk_at dksX0_print_2 3 rfl rfl)
theorem dX0_print_50 : decode cX0_print 50 = .ok (.bipush 12, 2) := dk_16 12 (dk_at dksX0_print_2 4 rfl rfl)
theorem dX0_print_52 : decode cX0_print 52 = .ok (.invokevirtual 169, 3) := dk_182 0 169 (dk_at dksX0_print_2 6 rfl rfl)
theorem dX0_print_55 : decode cX0_print 55 = .ok (.ireturn, 1) := dk_172 (dk_at dksX0_print_2 9 rfl rfl)
theorem dX0_print_56 : decode cX0_print 56 = .ok (.aload_n 0, 1) := dk_42 (dk_at dksX0_print_2 10 rfl rfl)
theorem dX0_print_57 : decode cX0_print 57 = .ok (.iload_n 1, 1) := dk_27 (dk_at dksX0_print_2 11 rfl rfl)
theorem dX0_print_58 : decode cX0_print 58 = .ok (.putfield 463, 3) := dk_181 1 207 (dk_at dksX0_print_2 12 rfl rfl)
theorem dX0_print_61 : decode cX0_print 61 = .ok (.aload_n 0, 1) := dk_42 (dk_at dksX0_print_2 15 rfl rfl)
theorem dX0_print_62 : decode cX0_print 62 = .ok (.invokevirtual 469, 3) := dk_182 1 213 (dk_at dksX0_print_2 16 rfl rfl)
theorem dX0_print_65 : decode cX0_print 65 = .ok (.iload_n 2, 1) := dk_28 (dk_at dksX0_print_2 19 rfl rfl)
theorem dX0_print_66 : decode cX0_print 66 = .ok (.iadd, 1) := dk_96 (dk_at dksX0_print_2 20 rfl rfl)
theorem dX0_print_67 : decode cX0_print 67 = .ok (.istore_n 3, 1) := dk_62 (dk_at dksX0_print_2 21 rfl rfl)
theorem dX0_print_68 : decode cX0_print 68 = .ok (.aload_n 0, 1) := dk_42 (dk_at dksX0_print_2 22 rfl rfl)
theorem dX0_print_69 : decode cX0_print 69 = .ok (.getfield 111, 3) := dk_180 0 111 (dk_at dksX0_print_3 0 rfl rfl)
theorem dX0_print_72 : decode cX0_print 72 = .ok (.aload_n 0, 1) := dk_42 (dk_at dksX0_print_3 3 rfl rfl)
theorem dX0_print_73 : decode cX0_print 73 = .ok (.getfield 466, 3) := dk_180 1 210 (dk_at dksX0_print_3 4 rfl rfl)
theorem dX0_print_76 : decode cX0_print 76 = .ok (.aload_n 0, 1) := dk_42 (dk_at dksX0_print_3 7 rfl rfl)
theorem dX0_print_77 : decode cX0_print 77 = .ok (.getfield 460, 3) := dk_180 1 204 (dk_at dksX0_print_3 8 rfl rfl)
theorem dX0_print_80 : decode cX0_print 80 = .ok (.iastore, 1) := dk_79 (dk_at dksX0_print_3 11 rfl rfl)
theorem dX0_print_81 : decode cX0_print 81 = .ok (.aload_n 0, 1) := dk_42 (dk_at dksX0_print_3 12 rfl rfl)
theorem dX0_print_82 : decode cX0_print 82 = .ok (.getfield 114, 3) := dk_180 0 114 (dk_at dksX0_print_3 13 rfl rfl)
theorem dX0_print_85 : decode cX0_print 85 = .ok (.aload_n 0, 1) := dk_42 (dk_at dksX0_print_3 16 rfl rfl)
theorem dX0_print_86 : decode cX0_print 86 = .ok (.getfield 466, 3) := dk_180 1 210 (dk_at dksX0_print_3 17 rfl rfl)
theorem dX0_print_89 : decode cX0_print 89 = .ok (.iload_n 3, 1) := dk_29 (dk_at dksX0_print_3 20 rfl rfl)
theorem dX0_print_90 : decode cX0_print 90 = .ok (.iastore, 1) := dk_79 (dk_at dksX0_print_3 21 rfl rfl)
theorem dX0_print_91 : decode cX0_print 91 = .ok (.aload_n 0, 1) := dk_42 (dk_at dksX0_print_3 22 rfl rfl)
theorem dX0_print_92 : decode cX0_print 92 = .ok (.dup, 1) := dk_89 (dk_at dksX0_print_3 23 rfl rfl)
theorem dX0_print_93 : decode cX0_print 93 = .ok (.getfield 466, 3) := dk_180 1 210 (dk_at dksX0_print_4 0 rfl rfl)
theorem dX0_print_96 : decode cX0_print 96 = .ok (.iconst 1, 1) := dk_4 (dk_at dksX0_print_4 3 rfl rfl)
theorem dX0_print_97 : decode cX0_print 97 = .ok (.iadd, 1) := dk_96 (dk_at dksX0_print_4 4 rfl rfl)
theorem dX0_print_98 : decode cX0_print 98 = .ok (.putfield 466, 3) := dk_181 1 210 (dk_at dksX0_print_4 5 rfl rfl)
theorem dX0_print_101 : decode cX0_print 101 = .ok (.aload_n 0, 1) := dk_42 (dk_at dksX0_print_4 8 rfl rfl)
theorem dX0_print_102 : decode cX0_print 102 = .ok (.iload_n 3, 1) := dk_29 (dk_at dksX0_print_4 9 rfl rfl)
theorem dX0_print_103 : decode cX0_print 103 = .ok (.invokevirtual 215, 3) := dk_182 0 215 (dk_at dksX0_print_4 10 rfl rfl)
theorem dX0_print_106 : decode cX0_print 106 = .ok (.ireturn, 1) := dk_172 (dk_at dksX0_print_4 13 rfl rfl)
abbrev cX0_copies : ByteArray := prog_1_method_65_code
def yX0_copies : MethodName := ⟨RX0, "copies", "()I"⟩
def dkwX0_copies_0 : List UInt8 := [42, 180, 1, 210, 154, 0, 7, 3, 167, 0, 14, 42, 180, 0, 114, 42, 180, 1, 210, 4, 100, 46, 172]
abbrev dktX0_copies_0 : List UInt8 := dkwX0_copies_0 ++ []
theorem dksX0_copies_0 : cX0_copies.data.toList.drop 0 = dktX0_copies_0 := by decide +kernel
theorem dX0_copies_0 : decode cX0_copies 0 = .ok (.aload_n 0, 1) := dk_42 (dk_at dksX0_copies_0 0 rfl rfl)
theorem dX0_copies_1 : decode cX0_copies 1 = .ok (.getfield 466, 3) := dk_180 1 210 (dk_at dksX0_copies_0 1 rfl rfl)
theorem dX0_copies_4 : decode cX0_copies 4 = .ok (.ifCond .ne 7, 3) := dk_154 0 7 (dk_at dksX0_copies_0 4 rfl rfl)
theorem dX0_copies_7 : decode cX0_copies 7 = .ok (.iconst 0, 1) := dk_3 (dk_at dksX0_copies_0 7 rfl rfl)
theorem dX0_copies_8 : decode cX0_copies 8 = .ok (.goto 14, 3) := dk_167 0 14 (dk_at dksX0_copies_0 8 rfl rfl)
theorem dX0_copies_11 : decode cX0_copies 11 = .ok (.aload_n 0, 1) := dk_42 (dk_at dksX0_copies_0 11 rfl rfl)
theorem dX0_copies_12 : decode cX0_copies 12 = .ok (.getfield 114, 3) := dk_180 0 114 (dk_at dksX0_copies_0 12 rfl rfl)
theorem dX0_copies_15 : decode cX0_copies 15 = .ok (.aload_n 0, 1) := dk_42 (dk_at dksX0_copies_0 15 rfl rfl)
theorem dX0_copies_16 : decode cX0_copies 16 = .ok (.getfield 466, 3) := dk_180 1 210 (dk_at dksX0_copies_0 16 rfl rfl)
theorem dX0_copies_19 : decode cX0_copies 19 = .ok (.iconst 1, 1) := dk_4 (dk_at dksX0_copies_0 19 rfl rfl)
theorem dX0_copies_20 : decode cX0_copies 20 = .ok (.isub, 1) := dk_100 (dk_at dksX0_copies_0 20 rfl rfl)
theorem dX0_copies_21 : decode cX0_copies 21 = .ok (.iaload, 1) := dk_46 (dk_at dksX0_copies_0 21 rfl rfl)
theorem dX0_copies_22 : decode cX0_copies 22 = .ok (.ireturn, 1) := dk_172 (dk_at dksX0_copies_0 22 rfl rfl)
abbrev cX0_tell : ByteArray := prog_1_method_67_code
def yX0_tell : MethodName := ⟨RX0, "tell", "(III)Z"⟩
def dkwX0_tell_4 : List UInt8 := [180, 1, 216, 29, 79, 42, 89, 180, 1, 216, 4, 96, 181, 1, 216, 42, 3, 182, 0, 152, 172]
abbrev dktX0_tell_4 : List UInt8 := dkwX0_tell_4 ++ []
def dkwX0_tell_3 : List UInt8 := [180, 0, 117, 42, 180, 1, 216, 27, 79, 42, 180, 0, 120, 42, 180, 1, 216, 28, 79, 42, 180, 0, 123, 42]
abbrev dktX0_tell_3 : List UInt8 := dkwX0_tell_3 ++ dktX0_tell_4
def dkwX0_tell_2 : List UInt8 := [172, 27, 42, 180, 1, 207, 162, 0, 10, 42, 16, 12, 182, 0, 152, 172, 42, 27, 181, 1, 207, 42]
abbrev dktX0_tell_2 : List UInt8 := dkwX0_tell_2 ++ dktX0_tell_3
def dkwX0_tell_1 : List UInt8 := [154, 0, 9, 42, 8, 182, 0, 152, 172, 42, 180, 1, 216, 16, 60, 160, 0, 10, 42, 16, 7, 182, 0, 152]
abbrev dktX0_tell_1 : List UInt8 := dkwX0_tell_1 ++ dktX0_tell_2
def dkwX0_tell_0 : List UInt8 := [28, 184, 1, 195, 154, 0, 9, 42, 5, 182, 0, 152, 172, 27, 184, 1, 198, 153, 0, 10, 29, 184, 1, 201]
abbrev dktX0_tell_0 : List UInt8 := dkwX0_tell_0 ++ dktX0_tell_1
theorem dksX0_tell_0 : cX0_tell.data.toList.drop 0 = dktX0_tell_0 := by decide +kernel
theorem dksX0_tell_1 : cX0_tell.data.toList.drop 24 = dktX0_tell_1 := dk_seg dksX0_tell_0 24 rfl rfl
theorem dksX0_tell_2 : cX0_tell.data.toList.drop 48 = dktX0_tell_2 := dk_seg dksX0_tell_1 24 rfl rfl
theorem dksX0_tell_3 : cX0_tell.data.toList.drop 70 = dktX0_tell_3 := dk_seg dksX0_tell_2 22 rfl rfl
theorem dksX0_tell_4 : cX0_tell.data.toList.drop 94 = dktX0_tell_4 := dk_seg dksX0_tell_3 24 rfl rfl
theorem dX0_tell_0 : decode cX0_tell 0 = .ok (.iload_n 2, 1) := dk_28 (dk_at dksX0_tell_0 0 rfl rfl)
theorem dX0_tell_1 : decode cX0_tell 1 = .ok (.invokestatic 451, 3) := dk_184 1 195 (dk_at dksX0_tell_0 1 rfl rfl)
theorem dX0_tell_4 : decode cX0_tell 4 = .ok (.ifCond .ne 9, 3) := dk_154 0 9 (dk_at dksX0_tell_0 4 rfl rfl)
theorem dX0_tell_7 : decode cX0_tell 7 = .ok (.aload_n 0, 1) := dk_42 (dk_at dksX0_tell_0 7 rfl rfl)
theorem dX0_tell_8 : decode cX0_tell 8 = .ok (.iconst 2, 1) := dk_5 (dk_at dksX0_tell_0 8 rfl rfl)
theorem dX0_tell_9 : decode cX0_tell 9 = .ok (.invokevirtual 152, 3) := dk_182 0 152 (dk_at dksX0_tell_0 9 rfl rfl)
theorem dX0_tell_12 : decode cX0_tell 12 = .ok (.ireturn, 1) := dk_172 (dk_at dksX0_tell_0 12 rfl rfl)
theorem dX0_tell_13 : decode cX0_tell 13 = .ok (.iload_n 1, 1) := dk_27 (dk_at dksX0_tell_0 13 rfl rfl)
theorem dX0_tell_14 : decode cX0_tell 14 = .ok (.invokestatic 454, 3) := dk_184 1 198 (dk_at dksX0_tell_0 14 rfl rfl)
theorem dX0_tell_17 : decode cX0_tell 17 = .ok (.ifCond .eq 10, 3) := dk_153 0 10 (dk_at dksX0_tell_0 17 rfl rfl)
theorem dX0_tell_20 : decode cX0_tell 20 = .ok (.iload_n 3, 1) := dk_29 (dk_at dksX0_tell_0 20 rfl rfl)
theorem dX0_tell_21 : decode cX0_tell 21 = .ok (.invokestatic 457, 3) := dk_184 1 201 (dk_at dksX0_tell_0 21 rfl rfl)
theorem dX0_tell_24 : decode cX0_tell 24 = .ok (.ifCond .ne 9, 3) := dk_154 0 9 (dk_at dksX0_tell_1 0 rfl rfl)
theorem dX0_tell_27 : decode cX0_tell 27 = .ok (.aload_n 0, 1) := dk_42 (dk_at dksX0_tell_1 3 rfl rfl)
theorem dX0_tell_28 : decode cX0_tell 28 = .ok (.iconst 5, 1) := dk_8 (dk_at dksX0_tell_1 4 rfl rfl)
theorem dX0_tell_29 : decode cX0_tell 29 = .ok (.invokevirtual 152, 3) := dk_182 0 152 (dk_at dksX0_tell_1 5 rfl rfl)
theorem dX0_tell_32 : decode cX0_tell 32 = .ok (.ireturn, 1) := dk_172 (dk_at dksX0_tell_1 8 rfl rfl)
theorem dX0_tell_33 : decode cX0_tell 33 = .ok (.aload_n 0, 1) := dk_42 (dk_at dksX0_tell_1 9 rfl rfl)
theorem dX0_tell_34 : decode cX0_tell 34 = .ok (.getfield 472, 3) := dk_180 1 216 (dk_at dksX0_tell_1 10 rfl rfl)
theorem dX0_tell_37 : decode cX0_tell 37 = .ok (.bipush 60, 2) := dk_16 60 (dk_at dksX0_tell_1 13 rfl rfl)
theorem dX0_tell_39 : decode cX0_tell 39 = .ok (.if_icmp .ne 10, 3) := dk_160 0 10 (dk_at dksX0_tell_1 15 rfl rfl)
theorem dX0_tell_42 : decode cX0_tell 42 = .ok (.aload_n 0, 1) := dk_42 (dk_at dksX0_tell_1 18 rfl rfl)
theorem dX0_tell_43 : decode cX0_tell 43 = .ok (.bipush 7, 2) := dk_16 7 (dk_at dksX0_tell_1 19 rfl rfl)
theorem dX0_tell_45 : decode cX0_tell 45 = .ok (.invokevirtual 152, 3) := dk_182 0 152 (dk_at dksX0_tell_1 21 rfl rfl)
theorem dX0_tell_48 : decode cX0_tell 48 = .ok (.ireturn, 1) := dk_172 (dk_at dksX0_tell_2 0 rfl rfl)
theorem dX0_tell_49 : decode cX0_tell 49 = .ok (.iload_n 1, 1) := dk_27 (dk_at dksX0_tell_2 1 rfl rfl)
theorem dX0_tell_50 : decode cX0_tell 50 = .ok (.aload_n 0, 1) := dk_42 (dk_at dksX0_tell_2 2 rfl rfl)
theorem dX0_tell_51 : decode cX0_tell 51 = .ok (.getfield 463, 3) := dk_180 1 207 (dk_at dksX0_tell_2 3 rfl rfl)
theorem dX0_tell_54 : decode cX0_tell 54 = .ok (.if_icmp .ge 10, 3) := dk_162 0 10 (dk_at dksX0_tell_2 6 rfl rfl)
theorem dX0_tell_57 : decode cX0_tell 57 = .ok (.aload_n 0, 1) := dk_42 (dk_at dksX0_tell_2 9 rfl rfl)
theorem dX0_tell_58 : decode cX0_tell 58 = .ok (.bipush 12, 2) := dk_16 12 (dk_at dksX0_tell_2 10 rfl rfl)
theorem dX0_tell_60 : decode cX0_tell 60 = .ok (.invokevirtual 152, 3) := dk_182 0 152 (dk_at dksX0_tell_2 12 rfl rfl)
theorem dX0_tell_63 : decode cX0_tell 63 = .ok (.ireturn, 1) := dk_172 (dk_at dksX0_tell_2 15 rfl rfl)
theorem dX0_tell_64 : decode cX0_tell 64 = .ok (.aload_n 0, 1) := dk_42 (dk_at dksX0_tell_2 16 rfl rfl)
theorem dX0_tell_65 : decode cX0_tell 65 = .ok (.iload_n 1, 1) := dk_27 (dk_at dksX0_tell_2 17 rfl rfl)
theorem dX0_tell_66 : decode cX0_tell 66 = .ok (.putfield 463, 3) := dk_181 1 207 (dk_at dksX0_tell_2 18 rfl rfl)
theorem dX0_tell_69 : decode cX0_tell 69 = .ok (.aload_n 0, 1) := dk_42 (dk_at dksX0_tell_2 21 rfl rfl)
theorem dX0_tell_70 : decode cX0_tell 70 = .ok (.getfield 117, 3) := dk_180 0 117 (dk_at dksX0_tell_3 0 rfl rfl)
theorem dX0_tell_73 : decode cX0_tell 73 = .ok (.aload_n 0, 1) := dk_42 (dk_at dksX0_tell_3 3 rfl rfl)
theorem dX0_tell_74 : decode cX0_tell 74 = .ok (.getfield 472, 3) := dk_180 1 216 (dk_at dksX0_tell_3 4 rfl rfl)
theorem dX0_tell_77 : decode cX0_tell 77 = .ok (.iload_n 1, 1) := dk_27 (dk_at dksX0_tell_3 7 rfl rfl)
theorem dX0_tell_78 : decode cX0_tell 78 = .ok (.iastore, 1) := dk_79 (dk_at dksX0_tell_3 8 rfl rfl)
theorem dX0_tell_79 : decode cX0_tell 79 = .ok (.aload_n 0, 1) := dk_42 (dk_at dksX0_tell_3 9 rfl rfl)
theorem dX0_tell_80 : decode cX0_tell 80 = .ok (.getfield 120, 3) := dk_180 0 120 (dk_at dksX0_tell_3 10 rfl rfl)
theorem dX0_tell_83 : decode cX0_tell 83 = .ok (.aload_n 0, 1) := dk_42 (dk_at dksX0_tell_3 13 rfl rfl)
theorem dX0_tell_84 : decode cX0_tell 84 = .ok (.getfield 472, 3) := dk_180 1 216 (dk_at dksX0_tell_3 14 rfl rfl)
theorem dX0_tell_87 : decode cX0_tell 87 = .ok (.iload_n 2, 1) := dk_28 (dk_at dksX0_tell_3 17 rfl rfl)
theorem dX0_tell_88 : decode cX0_tell 88 = .ok (.iastore, 1) := dk_79 (dk_at dksX0_tell_3 18 rfl rfl)
theorem dX0_tell_89 : decode cX0_tell 89 = .ok (.aload_n 0, 1) := dk_42 (dk_at dksX0_tell_3 19 rfl rfl)
theorem dX0_tell_90 : decode cX0_tell 90 = .ok (.getfield 123, 3) := dk_180 0 123 (dk_at dksX0_tell_3 20 rfl rfl)
theorem dX0_tell_93 : decode cX0_tell 93 = .ok (.aload_n 0, 1) := dk_42 (dk_at dksX0_tell_3 23 rfl rfl)
theorem dX0_tell_94 : decode cX0_tell 94 = .ok (.getfield 472, 3) := dk_180 1 216 (dk_at dksX0_tell_4 0 rfl rfl)
theorem dX0_tell_97 : decode cX0_tell 97 = .ok (.iload_n 3, 1) := dk_29 (dk_at dksX0_tell_4 3 rfl rfl)
theorem dX0_tell_98 : decode cX0_tell 98 = .ok (.iastore, 1) := dk_79 (dk_at dksX0_tell_4 4 rfl rfl)
theorem dX0_tell_99 : decode cX0_tell 99 = .ok (.aload_n 0, 1) := dk_42 (dk_at dksX0_tell_4 5 rfl rfl)
theorem dX0_tell_100 : decode cX0_tell 100 = .ok (.dup, 1) := dk_89 (dk_at dksX0_tell_4 6 rfl rfl)
theorem dX0_tell_101 : decode cX0_tell 101 = .ok (.getfield 472, 3) := dk_180 1 216 (dk_at dksX0_tell_4 7 rfl rfl)
theorem dX0_tell_104 : decode cX0_tell 104 = .ok (.iconst 1, 1) := dk_4 (dk_at dksX0_tell_4 10 rfl rfl)
theorem dX0_tell_105 : decode cX0_tell 105 = .ok (.iadd, 1) := dk_96 (dk_at dksX0_tell_4 11 rfl rfl)
theorem dX0_tell_106 : decode cX0_tell 106 = .ok (.putfield 472, 3) := dk_181 1 216 (dk_at dksX0_tell_4 12 rfl rfl)
theorem dX0_tell_109 : decode cX0_tell 109 = .ok (.aload_n 0, 1) := dk_42 (dk_at dksX0_tell_4 15 rfl rfl)
theorem dX0_tell_110 : decode cX0_tell 110 = .ok (.iconst 0, 1) := dk_3 (dk_at dksX0_tell_4 16 rfl rfl)
theorem dX0_tell_111 : decode cX0_tell 111 = .ok (.invokevirtual 152, 3) := dk_182 0 152 (dk_at dksX0_tell_4 17 rfl rfl)
theorem dX0_tell_114 : decode cX0_tell 114 = .ok (.ireturn, 1) := dk_172 (dk_at dksX0_tell_4 20 rfl rfl)
abbrev cX0_says : ByteArray := prog_1_method_71_code
def yX0_says : MethodName := ⟨RX0, "says", "(II)I"⟩
def dkwX0_says_1 : List UInt8 := [27, 182, 1, 222, 28, 182, 1, 225, 182, 0, 215, 167, 0, 9, 42, 16, 8, 182, 0, 169, 172]
abbrev dktX0_says_1 : List UInt8 := dkwX0_says_1 ++ []
def dkwX0_says_0 : List UInt8 := [28, 184, 1, 195, 154, 0, 9, 42, 5, 182, 0, 169, 172, 42, 27, 182, 1, 219, 153, 0, 20, 42, 42, 42]
abbrev dktX0_says_0 : List UInt8 := dkwX0_says_0 ++ dktX0_says_1
theorem dksX0_says_0 : cX0_says.data.toList.drop 0 = dktX0_says_0 := by decide +kernel
theorem dksX0_says_1 : cX0_says.data.toList.drop 24 = dktX0_says_1 := dk_seg dksX0_says_0 24 rfl rfl
theorem dX0_says_0 : decode cX0_says 0 = .ok (.iload_n 2, 1) := dk_28 (dk_at dksX0_says_0 0 rfl rfl)
theorem dX0_says_1 : decode cX0_says 1 = .ok (.invokestatic 451, 3) := dk_184 1 195 (dk_at dksX0_says_0 1 rfl rfl)
theorem dX0_says_4 : decode cX0_says 4 = .ok (.ifCond .ne 9, 3) := dk_154 0 9 (dk_at dksX0_says_0 4 rfl rfl)
theorem dX0_says_7 : decode cX0_says 7 = .ok (.aload_n 0, 1) := dk_42 (dk_at dksX0_says_0 7 rfl rfl)
theorem dX0_says_8 : decode cX0_says 8 = .ok (.iconst 2, 1) := dk_5 (dk_at dksX0_says_0 8 rfl rfl)
theorem dX0_says_9 : decode cX0_says 9 = .ok (.invokevirtual 169, 3) := dk_182 0 169 (dk_at dksX0_says_0 9 rfl rfl)
theorem dX0_says_12 : decode cX0_says 12 = .ok (.ireturn, 1) := dk_172 (dk_at dksX0_says_0 12 rfl rfl)
theorem dX0_says_13 : decode cX0_says 13 = .ok (.aload_n 0, 1) := dk_42 (dk_at dksX0_says_0 13 rfl rfl)
theorem dX0_says_14 : decode cX0_says 14 = .ok (.iload_n 1, 1) := dk_27 (dk_at dksX0_says_0 14 rfl rfl)
theorem dX0_says_15 : decode cX0_says 15 = .ok (.invokevirtual 475, 3) := dk_182 1 219 (dk_at dksX0_says_0 15 rfl rfl)
theorem dX0_says_18 : decode cX0_says 18 = .ok (.ifCond .eq 20, 3) := dk_153 0 20 (dk_at dksX0_says_0 18 rfl rfl)
theorem dX0_says_21 : decode cX0_says 21 = .ok (.aload_n 0, 1) := dk_42 (dk_at dksX0_says_0 21 rfl rfl)
theorem dX0_says_22 : decode cX0_says 22 = .ok (.aload_n 0, 1) := dk_42 (dk_at dksX0_says_0 22 rfl rfl)
theorem dX0_says_23 : decode cX0_says 23 = .ok (.aload_n 0, 1) := dk_42 (dk_at dksX0_says_0 23 rfl rfl)
theorem dX0_says_24 : decode cX0_says 24 = .ok (.iload_n 1, 1) := dk_27 (dk_at dksX0_says_1 0 rfl rfl)
theorem dX0_says_25 : decode cX0_says 25 = .ok (.invokevirtual 478, 3) := dk_182 1 222 (dk_at dksX0_says_1 1 rfl rfl)
theorem dX0_says_28 : decode cX0_says 28 = .ok (.iload_n 2, 1) := dk_28 (dk_at dksX0_says_1 4 rfl rfl)
theorem dX0_says_29 : decode cX0_says 29 = .ok (.invokevirtual 481, 3) := dk_182 1 225 (dk_at dksX0_says_1 5 rfl rfl)
theorem dX0_says_32 : decode cX0_says 32 = .ok (.invokevirtual 215, 3) := dk_182 0 215 (dk_at dksX0_says_1 8 rfl rfl)
theorem dX0_says_35 : decode cX0_says 35 = .ok (.goto 9, 3) := dk_167 0 9 (dk_at dksX0_says_1 11 rfl rfl)
theorem dX0_says_38 : decode cX0_says 38 = .ok (.aload_n 0, 1) := dk_42 (dk_at dksX0_says_1 14 rfl rfl)
theorem dX0_says_39 : decode cX0_says 39 = .ok (.bipush 8, 2) := dk_16 8 (dk_at dksX0_says_1 15 rfl rfl)
theorem dX0_says_41 : decode cX0_says 41 = .ok (.invokevirtual 169, 3) := dk_182 0 169 (dk_at dksX0_says_1 17 rfl rfl)
theorem dX0_says_44 : decode cX0_says 44 = .ok (.ireturn, 1) := dk_172 (dk_at dksX0_says_1 20 rfl rfl)
abbrev cX0_isCopy : ByteArray := prog_1_method_70_code
def yX0_isCopy : MethodName := ⟨RX0, "isCopy", "(I)Z"⟩
def dkwX0_isCopy_0 : List UInt8 := [27, 4, 161, 0, 15, 27, 42, 182, 1, 213, 163, 0, 7, 4, 167, 0, 4, 3, 172]
abbrev dktX0_isCopy_0 : List UInt8 := dkwX0_isCopy_0 ++ []
theorem dksX0_isCopy_0 : cX0_isCopy.data.toList.drop 0 = dktX0_isCopy_0 := by decide +kernel
theorem dX0_isCopy_0 : decode cX0_isCopy 0 = .ok (.iload_n 1, 1) := dk_27 (dk_at dksX0_isCopy_0 0 rfl rfl)
theorem dX0_isCopy_1 : decode cX0_isCopy 1 = .ok (.iconst 1, 1) := dk_4 (dk_at dksX0_isCopy_0 1 rfl rfl)
theorem dX0_isCopy_2 : decode cX0_isCopy 2 = .ok (.if_icmp .lt 15, 3) := dk_161 0 15 (dk_at dksX0_isCopy_0 2 rfl rfl)
theorem dX0_isCopy_5 : decode cX0_isCopy 5 = .ok (.iload_n 1, 1) := dk_27 (dk_at dksX0_isCopy_0 5 rfl rfl)
theorem dX0_isCopy_6 : decode cX0_isCopy 6 = .ok (.aload_n 0, 1) := dk_42 (dk_at dksX0_isCopy_0 6 rfl rfl)
theorem dX0_isCopy_7 : decode cX0_isCopy 7 = .ok (.invokevirtual 469, 3) := dk_182 1 213 (dk_at dksX0_isCopy_0 7 rfl rfl)
theorem dX0_isCopy_10 : decode cX0_isCopy 10 = .ok (.if_icmp .gt 7, 3) := dk_163 0 7 (dk_at dksX0_isCopy_0 10 rfl rfl)
theorem dX0_isCopy_13 : decode cX0_isCopy 13 = .ok (.iconst 1, 1) := dk_4 (dk_at dksX0_isCopy_0 13 rfl rfl)
theorem dX0_isCopy_14 : decode cX0_isCopy 14 = .ok (.goto 4, 3) := dk_167 0 4 (dk_at dksX0_isCopy_0 14 rfl rfl)
theorem dX0_isCopy_17 : decode cX0_isCopy 17 = .ok (.iconst 0, 1) := dk_3 (dk_at dksX0_isCopy_0 17 rfl rfl)
theorem dX0_isCopy_18 : decode cX0_isCopy 18 = .ok (.ireturn, 1) := dk_172 (dk_at dksX0_isCopy_0 18 rfl rfl)
abbrev cX0_printingOf : ByteArray := prog_1_method_69_code
def yX0_printingOf : MethodName := ⟨RX0, "printingOf", "(I)I"⟩
def dkwX0_printingOf_0 : List UInt8 := [3, 61, 42, 180, 0, 114, 28, 46, 27, 162, 0, 9, 132, 2, 1, 167, 255, 243, 28, 172]
abbrev dktX0_printingOf_0 : List UInt8 := dkwX0_printingOf_0 ++ []
theorem dksX0_printingOf_0 : cX0_printingOf.data.toList.drop 0 = dktX0_printingOf_0 := by decide +kernel
theorem dX0_printingOf_0 : decode cX0_printingOf 0 = .ok (.iconst 0, 1) := dk_3 (dk_at dksX0_printingOf_0 0 rfl rfl)
theorem dX0_printingOf_1 : decode cX0_printingOf 1 = .ok (.istore_n 2, 1) := dk_61 (dk_at dksX0_printingOf_0 1 rfl rfl)
theorem dX0_printingOf_2 : decode cX0_printingOf 2 = .ok (.aload_n 0, 1) := dk_42 (dk_at dksX0_printingOf_0 2 rfl rfl)
theorem dX0_printingOf_3 : decode cX0_printingOf 3 = .ok (.getfield 114, 3) := dk_180 0 114 (dk_at dksX0_printingOf_0 3 rfl rfl)
theorem dX0_printingOf_6 : decode cX0_printingOf 6 = .ok (.iload_n 2, 1) := dk_28 (dk_at dksX0_printingOf_0 6 rfl rfl)
theorem dX0_printingOf_7 : decode cX0_printingOf 7 = .ok (.iaload, 1) := dk_46 (dk_at dksX0_printingOf_0 7 rfl rfl)
theorem dX0_printingOf_8 : decode cX0_printingOf 8 = .ok (.iload_n 1, 1) := dk_27 (dk_at dksX0_printingOf_0 8 rfl rfl)
theorem dX0_printingOf_9 : decode cX0_printingOf 9 = .ok (.if_icmp .ge 9, 3) := dk_162 0 9 (dk_at dksX0_printingOf_0 9 rfl rfl)
theorem dX0_printingOf_12 : decode cX0_printingOf 12 = .ok (.iinc 2 1, 3) := dk_132 2 1 (dk_at dksX0_printingOf_0 12 rfl rfl)
theorem dX0_printingOf_15 : decode cX0_printingOf 15 = .ok (.goto (-13), 3) := dk_167 255 243 (dk_at dksX0_printingOf_0 15 rfl rfl)
theorem dX0_printingOf_18 : decode cX0_printingOf 18 = .ok (.iload_n 2, 1) := dk_28 (dk_at dksX0_printingOf_0 18 rfl rfl)
theorem dX0_printingOf_19 : decode cX0_printingOf 19 = .ok (.ireturn, 1) := dk_172 (dk_at dksX0_printingOf_0 19 rfl rfl)
abbrev cX0_saidBy : ByteArray := prog_1_method_68_code
def yX0_saidBy : MethodName := ⟨RX0, "saidBy", "(II)I"⟩
def dkwX0_saidBy_1 : List UInt8 := [160, 0, 13, 42, 180, 0, 108, 21, 4, 46, 167, 0, 4, 29, 62, 132, 4, 1, 167, 255, 219, 29, 172]
abbrev dktX0_saidBy_1 : List UInt8 := dkwX0_saidBy_1 ++ []
def dkwX0_saidBy_0 : List UInt8 := [3, 62, 3, 54, 4, 21, 4, 42, 180, 0, 111, 27, 46, 162, 0, 32, 42, 180, 0, 105, 21, 4, 46, 28]
abbrev dktX0_saidBy_0 : List UInt8 := dkwX0_saidBy_0 ++ dktX0_saidBy_1
theorem dksX0_saidBy_0 : cX0_saidBy.data.toList.drop 0 = dktX0_saidBy_0 := by decide +kernel
theorem dksX0_saidBy_1 : cX0_saidBy.data.toList.drop 24 = dktX0_saidBy_1 := dk_seg dksX0_saidBy_0 24 rfl rfl
theorem dX0_saidBy_0 : decode cX0_saidBy 0 = .ok (.iconst 0, 1) := dk_3 (dk_at dksX0_saidBy_0 0 rfl rfl)
theorem dX0_saidBy_1 : decode cX0_saidBy 1 = .ok (.istore_n 3, 1) := dk_62 (dk_at dksX0_saidBy_0 1 rfl rfl)
theorem dX0_saidBy_2 : decode cX0_saidBy 2 = .ok (.iconst 0, 1) := dk_3 (dk_at dksX0_saidBy_0 2 rfl rfl)
theorem dX0_saidBy_3 : decode cX0_saidBy 3 = .ok (.istore 4, 2) := dk_54 4 (dk_at dksX0_saidBy_0 3 rfl rfl)
theorem dX0_saidBy_5 : decode cX0_saidBy 5 = .ok (.iload 4, 2) := dk_21 4 (dk_at dksX0_saidBy_0 5 rfl rfl)
theorem dX0_saidBy_7 : decode cX0_saidBy 7 = .ok (.aload_n 0, 1) := dk_42 (dk_at dksX0_saidBy_0 7 rfl rfl)
theorem dX0_saidBy_8 : decode cX0_saidBy 8 = .ok (.getfield 111, 3) := dk_180 0 111 (dk_at dksX0_saidBy_0 8 rfl rfl)
theorem dX0_saidBy_11 : decode cX0_saidBy 11 = .ok (.iload_n 1, 1) := dk_27 (dk_at dksX0_saidBy_0 11 rfl rfl)
theorem dX0_saidBy_12 : decode cX0_saidBy 12 = .ok (.iaload, 1) := dk_46 (dk_at dksX0_saidBy_0 12 rfl rfl)
theorem dX0_saidBy_13 : decode cX0_saidBy 13 = .ok (.if_icmp .ge 32, 3) := dk_162 0 32 (dk_at dksX0_saidBy_0 13 rfl rfl)
theorem dX0_saidBy_16 : decode cX0_saidBy 16 = .ok (.aload_n 0, 1) := dk_42 (dk_at dksX0_saidBy_0 16 rfl rfl)
theorem dX0_saidBy_17 : decode cX0_saidBy 17 = .ok (.getfield 105, 3) := dk_180 0 105 (dk_at dksX0_saidBy_0 17 rfl rfl)
theorem dX0_saidBy_20 : decode cX0_saidBy 20 = .ok (.iload 4, 2) := dk_21 4 (dk_at dksX0_saidBy_0 20 rfl rfl)
theorem dX0_saidBy_22 : decode cX0_saidBy 22 = .ok (.iaload, 1) := dk_46 (dk_at dksX0_saidBy_0 22 rfl rfl)
theorem dX0_saidBy_23 : decode cX0_saidBy 23 = .ok (.iload_n 2, 1) := dk_28 (dk_at dksX0_saidBy_0 23 rfl rfl)
theorem dX0_saidBy_24 : decode cX0_saidBy 24 = .ok (.if_icmp .ne 13, 3) := dk_160 0 13 (dk_at dksX0_saidBy_1 0 rfl rfl)
theorem dX0_saidBy_27 : decode cX0_saidBy 27 = .ok (.aload_n 0, 1) := dk_42 (dk_at dksX0_saidBy_1 3 rfl rfl)
theorem dX0_saidBy_28 : decode cX0_saidBy 28 = .ok (.getfield 108, 3) := dk_180 0 108 (dk_at dksX0_saidBy_1 4 rfl rfl)
theorem dX0_saidBy_31 : decode cX0_saidBy 31 = .ok (.iload 4, 2) := dk_21 4 (dk_at dksX0_saidBy_1 7 rfl rfl)
theorem dX0_saidBy_33 : decode cX0_saidBy 33 = .ok (.iaload, 1) := dk_46 (dk_at dksX0_saidBy_1 9 rfl rfl)
theorem dX0_saidBy_34 : decode cX0_saidBy 34 = .ok (.goto 4, 3) := dk_167 0 4 (dk_at dksX0_saidBy_1 10 rfl rfl)
theorem dX0_saidBy_37 : decode cX0_saidBy 37 = .ok (.iload_n 3, 1) := dk_29 (dk_at dksX0_saidBy_1 13 rfl rfl)
theorem dX0_saidBy_38 : decode cX0_saidBy 38 = .ok (.istore_n 3, 1) := dk_62 (dk_at dksX0_saidBy_1 14 rfl rfl)
theorem dX0_saidBy_39 : decode cX0_saidBy 39 = .ok (.iinc 4 1, 3) := dk_132 4 1 (dk_at dksX0_saidBy_1 15 rfl rfl)
theorem dX0_saidBy_42 : decode cX0_saidBy 42 = .ok (.goto (-37), 3) := dk_167 255 219 (dk_at dksX0_saidBy_1 18 rfl rfl)
theorem dX0_saidBy_45 : decode cX0_saidBy 45 = .ok (.iload_n 3, 1) := dk_29 (dk_at dksX0_saidBy_1 21 rfl rfl)
theorem dX0_saidBy_46 : decode cX0_saidBy 46 = .ok (.ireturn, 1) := dk_172 (dk_at dksX0_saidBy_1 22 rfl rfl)
abbrev cX0_wrong : ByteArray := prog_1_method_73_code
def yX0_wrong : MethodName := ⟨RX0, "wrong", "(II)I"⟩
def dkwX0_wrong_1 : List UInt8 := [27, 182, 1, 222, 28, 182, 1, 228, 182, 0, 215, 167, 0, 9, 42, 16, 8, 182, 0, 169, 172]
abbrev dktX0_wrong_1 : List UInt8 := dkwX0_wrong_1 ++ []
def dkwX0_wrong_0 : List UInt8 := [28, 184, 1, 198, 154, 0, 9, 42, 8, 182, 0, 169, 172, 42, 27, 182, 1, 219, 153, 0, 20, 42, 42, 42]
abbrev dktX0_wrong_0 : List UInt8 := dkwX0_wrong_0 ++ dktX0_wrong_1
theorem dksX0_wrong_0 : cX0_wrong.data.toList.drop 0 = dktX0_wrong_0 := by decide +kernel
theorem dksX0_wrong_1 : cX0_wrong.data.toList.drop 24 = dktX0_wrong_1 := dk_seg dksX0_wrong_0 24 rfl rfl
theorem dX0_wrong_0 : decode cX0_wrong 0 = .ok (.iload_n 2, 1) := dk_28 (dk_at dksX0_wrong_0 0 rfl rfl)
theorem dX0_wrong_1 : decode cX0_wrong 1 = .ok (.invokestatic 454, 3) := dk_184 1 198 (dk_at dksX0_wrong_0 1 rfl rfl)
theorem dX0_wrong_4 : decode cX0_wrong 4 = .ok (.ifCond .ne 9, 3) := dk_154 0 9 (dk_at dksX0_wrong_0 4 rfl rfl)
theorem dX0_wrong_7 : decode cX0_wrong 7 = .ok (.aload_n 0, 1) := dk_42 (dk_at dksX0_wrong_0 7 rfl rfl)
theorem dX0_wrong_8 : decode cX0_wrong 8 = .ok (.iconst 5, 1) := dk_8 (dk_at dksX0_wrong_0 8 rfl rfl)
theorem dX0_wrong_9 : decode cX0_wrong 9 = .ok (.invokevirtual 169, 3) := dk_182 0 169 (dk_at dksX0_wrong_0 9 rfl rfl)
theorem dX0_wrong_12 : decode cX0_wrong 12 = .ok (.ireturn, 1) := dk_172 (dk_at dksX0_wrong_0 12 rfl rfl)
theorem dX0_wrong_13 : decode cX0_wrong 13 = .ok (.aload_n 0, 1) := dk_42 (dk_at dksX0_wrong_0 13 rfl rfl)
theorem dX0_wrong_14 : decode cX0_wrong 14 = .ok (.iload_n 1, 1) := dk_27 (dk_at dksX0_wrong_0 14 rfl rfl)
theorem dX0_wrong_15 : decode cX0_wrong 15 = .ok (.invokevirtual 475, 3) := dk_182 1 219 (dk_at dksX0_wrong_0 15 rfl rfl)
theorem dX0_wrong_18 : decode cX0_wrong 18 = .ok (.ifCond .eq 20, 3) := dk_153 0 20 (dk_at dksX0_wrong_0 18 rfl rfl)
theorem dX0_wrong_21 : decode cX0_wrong 21 = .ok (.aload_n 0, 1) := dk_42 (dk_at dksX0_wrong_0 21 rfl rfl)
theorem dX0_wrong_22 : decode cX0_wrong 22 = .ok (.aload_n 0, 1) := dk_42 (dk_at dksX0_wrong_0 22 rfl rfl)
theorem dX0_wrong_23 : decode cX0_wrong 23 = .ok (.aload_n 0, 1) := dk_42 (dk_at dksX0_wrong_0 23 rfl rfl)
theorem dX0_wrong_24 : decode cX0_wrong 24 = .ok (.iload_n 1, 1) := dk_27 (dk_at dksX0_wrong_1 0 rfl rfl)
theorem dX0_wrong_25 : decode cX0_wrong 25 = .ok (.invokevirtual 478, 3) := dk_182 1 222 (dk_at dksX0_wrong_1 1 rfl rfl)
theorem dX0_wrong_28 : decode cX0_wrong 28 = .ok (.iload_n 2, 1) := dk_28 (dk_at dksX0_wrong_1 4 rfl rfl)
theorem dX0_wrong_29 : decode cX0_wrong 29 = .ok (.invokevirtual 484, 3) := dk_182 1 228 (dk_at dksX0_wrong_1 5 rfl rfl)
theorem dX0_wrong_32 : decode cX0_wrong 32 = .ok (.invokevirtual 215, 3) := dk_182 0 215 (dk_at dksX0_wrong_1 8 rfl rfl)
theorem dX0_wrong_35 : decode cX0_wrong 35 = .ok (.goto 9, 3) := dk_167 0 9 (dk_at dksX0_wrong_1 11 rfl rfl)
theorem dX0_wrong_38 : decode cX0_wrong 38 = .ok (.aload_n 0, 1) := dk_42 (dk_at dksX0_wrong_1 14 rfl rfl)
theorem dX0_wrong_39 : decode cX0_wrong 39 = .ok (.bipush 8, 2) := dk_16 8 (dk_at dksX0_wrong_1 15 rfl rfl)
theorem dX0_wrong_41 : decode cX0_wrong 41 = .ok (.invokevirtual 169, 3) := dk_182 0 169 (dk_at dksX0_wrong_1 17 rfl rfl)
theorem dX0_wrong_44 : decode cX0_wrong 44 = .ok (.ireturn, 1) := dk_172 (dk_at dksX0_wrong_1 20 rfl rfl)
abbrev cX0_wrongIn : ByteArray := prog_1_method_72_code
def yX0_wrongIn : MethodName := ⟨RX0, "wrongIn", "(II)I"⟩
def dkwX0_wrongIn_4 : List UInt8 := [167, 255, 167, 29, 172]
abbrev dktX0_wrongIn_4 : List UInt8 := dkwX0_wrongIn_4 ++ []
def dkwX0_wrongIn_3 : List UInt8 := [21, 5, 46, 42, 27, 21, 4, 182, 1, 225, 159, 0, 7, 4, 167, 0, 4, 3, 96, 62, 132, 4, 1]
abbrev dktX0_wrongIn_3 : List UInt8 := dkwX0_wrongIn_3 ++ dktX0_wrongIn_4
def dkwX0_wrongIn_2 : List UInt8 := [163, 0, 7, 21, 6, 54, 5, 132, 6, 1, 167, 255, 217, 29, 21, 5, 2, 159, 0, 24, 42, 180, 0, 123]
abbrev dktX0_wrongIn_2 : List UInt8 := dkwX0_wrongIn_2 ++ dktX0_wrongIn_3
def dkwX0_wrongIn_1 : List UInt8 := [162, 0, 36, 42, 180, 0, 120, 21, 6, 46, 21, 4, 160, 0, 18, 42, 180, 0, 117, 21, 6, 46, 28]
abbrev dktX0_wrongIn_1 : List UInt8 := dkwX0_wrongIn_1 ++ dktX0_wrongIn_2
def dkwX0_wrongIn_0 : List UInt8 := [3, 62, 3, 54, 4, 21, 4, 16, 40, 162, 0, 88, 2, 54, 5, 3, 54, 6, 21, 6, 42, 180, 1, 216]
abbrev dktX0_wrongIn_0 : List UInt8 := dkwX0_wrongIn_0 ++ dktX0_wrongIn_1
theorem dksX0_wrongIn_0 : cX0_wrongIn.data.toList.drop 0 = dktX0_wrongIn_0 := by decide +kernel
theorem dksX0_wrongIn_1 : cX0_wrongIn.data.toList.drop 24 = dktX0_wrongIn_1 := dk_seg dksX0_wrongIn_0 24 rfl rfl
theorem dksX0_wrongIn_2 : cX0_wrongIn.data.toList.drop 47 = dktX0_wrongIn_2 := dk_seg dksX0_wrongIn_1 23 rfl rfl
theorem dksX0_wrongIn_3 : cX0_wrongIn.data.toList.drop 71 = dktX0_wrongIn_3 := dk_seg dksX0_wrongIn_2 24 rfl rfl
theorem dksX0_wrongIn_4 : cX0_wrongIn.data.toList.drop 94 = dktX0_wrongIn_4 := dk_seg dksX0_wrongIn_3 23 rfl rfl
theorem dX0_wrongIn_0 : decode cX0_wrongIn 0 = .ok (.iconst 0, 1) := dk_3 (dk_at dksX0_wrongIn_0 0 rfl rfl)
theorem dX0_wrongIn_1 : decode cX0_wrongIn 1 = .ok (.istore_n 3, 1) := dk_62 (dk_at dksX0_wrongIn_0 1 rfl rfl)
theorem dX0_wrongIn_2 : decode cX0_wrongIn 2 = .ok (.iconst 0, 1) := dk_3 (dk_at dksX0_wrongIn_0 2 rfl rfl)
theorem dX0_wrongIn_3 : decode cX0_wrongIn 3 = .ok (.istore 4, 2) := dk_54 4 (dk_at dksX0_wrongIn_0 3 rfl rfl)
theorem dX0_wrongIn_5 : decode cX0_wrongIn 5 = .ok (.iload 4, 2) := dk_21 4 (dk_at dksX0_wrongIn_0 5 rfl rfl)
theorem dX0_wrongIn_7 : decode cX0_wrongIn 7 = .ok (.bipush 40, 2) := dk_16 40 (dk_at dksX0_wrongIn_0 7 rfl rfl)
theorem dX0_wrongIn_9 : decode cX0_wrongIn 9 = .ok (.if_icmp .ge 88, 3) := dk_162 0 88 (dk_at dksX0_wrongIn_0 9 rfl rfl)
theorem dX0_wrongIn_12 : decode cX0_wrongIn 12 = .ok (.iconst (-1), 1) := dk_2 (dk_at dksX0_wrongIn_0 12 rfl rfl)
theorem dX0_wrongIn_13 : decode cX0_wrongIn 13 = .ok (.istore 5, 2) := dk_54 5 (dk_at dksX0_wrongIn_0 13 rfl rfl)
theorem dX0_wrongIn_15 : decode cX0_wrongIn 15 = .ok (.iconst 0, 1) := dk_3 (dk_at dksX0_wrongIn_0 15 rfl rfl)
theorem dX0_wrongIn_16 : decode cX0_wrongIn 16 = .ok (.istore 6, 2) := dk_54 6 (dk_at dksX0_wrongIn_0 16 rfl rfl)
theorem dX0_wrongIn_18 : decode cX0_wrongIn 18 = .ok (.iload 6, 2) := dk_21 6 (dk_at dksX0_wrongIn_0 18 rfl rfl)
theorem dX0_wrongIn_20 : decode cX0_wrongIn 20 = .ok (.aload_n 0, 1) := dk_42 (dk_at dksX0_wrongIn_0 20 rfl rfl)
theorem dX0_wrongIn_21 : decode cX0_wrongIn 21 = .ok (.getfield 472, 3) := dk_180 1 216 (dk_at dksX0_wrongIn_0 21 rfl rfl)
theorem dX0_wrongIn_24 : decode cX0_wrongIn 24 = .ok (.if_icmp .ge 36, 3) := dk_162 0 36 (dk_at dksX0_wrongIn_1 0 rfl rfl)
theorem dX0_wrongIn_27 : decode cX0_wrongIn 27 = .ok (.aload_n 0, 1) := dk_42 (dk_at dksX0_wrongIn_1 3 rfl rfl)
theorem dX0_wrongIn_28 : decode cX0_wrongIn 28 = .ok (.getfield 120, 3) := dk_180 0 120 (dk_at dksX0_wrongIn_1 4 rfl rfl)
theorem dX0_wrongIn_31 : decode cX0_wrongIn 31 = .ok (.iload 6, 2) := dk_21 6 (dk_at dksX0_wrongIn_1 7 rfl rfl)
theorem dX0_wrongIn_33 : decode cX0_wrongIn 33 = .ok (.iaload, 1) := dk_46 (dk_at dksX0_wrongIn_1 9 rfl rfl)
theorem dX0_wrongIn_34 : decode cX0_wrongIn 34 = .ok (.iload 4, 2) := dk_21 4 (dk_at dksX0_wrongIn_1 10 rfl rfl)
theorem dX0_wrongIn_36 : decode cX0_wrongIn 36 = .ok (.if_icmp .ne 18, 3) := dk_160 0 18 (dk_at dksX0_wrongIn_1 12 rfl rfl)
theorem dX0_wrongIn_39 : decode cX0_wrongIn 39 = .ok (.aload_n 0, 1) := dk_42 (dk_at dksX0_wrongIn_1 15 rfl rfl)
theorem dX0_wrongIn_40 : decode cX0_wrongIn 40 = .ok (.getfield 117, 3) := dk_180 0 117 (dk_at dksX0_wrongIn_1 16 rfl rfl)
theorem dX0_wrongIn_43 : decode cX0_wrongIn 43 = .ok (.iload 6, 2) := dk_21 6 (dk_at dksX0_wrongIn_1 19 rfl rfl)
theorem dX0_wrongIn_45 : decode cX0_wrongIn 45 = .ok (.iaload, 1) := dk_46 (dk_at dksX0_wrongIn_1 21 rfl rfl)
theorem dX0_wrongIn_46 : decode cX0_wrongIn 46 = .ok (.iload_n 2, 1) := dk_28 (dk_at dksX0_wrongIn_1 22 rfl rfl)
theorem dX0_wrongIn_47 : decode cX0_wrongIn 47 = .ok (.if_icmp .gt 7, 3) := dk_163 0 7 (dk_at dksX0_wrongIn_2 0 rfl rfl)
theorem dX0_wrongIn_50 : decode cX0_wrongIn 50 = .ok (.iload 6, 2) := dk_21 6 (dk_at dksX0_wrongIn_2 3 rfl rfl)
theorem dX0_wrongIn_52 : decode cX0_wrongIn 52 = .ok (.istore 5, 2) := dk_54 5 (dk_at dksX0_wrongIn_2 5 rfl rfl)
theorem dX0_wrongIn_54 : decode cX0_wrongIn 54 = .ok (.iinc 6 1, 3) := dk_132 6 1 (dk_at dksX0_wrongIn_2 7 rfl rfl)
theorem dX0_wrongIn_57 : decode cX0_wrongIn 57 = .ok (.goto (-39), 3) := dk_167 255 217 (dk_at dksX0_wrongIn_2 10 rfl rfl)
theorem dX0_wrongIn_60 : decode cX0_wrongIn 60 = .ok (.iload_n 3, 1) := dk_29 (dk_at dksX0_wrongIn_2 13 rfl rfl)
theorem dX0_wrongIn_61 : decode cX0_wrongIn 61 = .ok (.iload 5, 2) := dk_21 5 (dk_at dksX0_wrongIn_2 14 rfl rfl)
theorem dX0_wrongIn_63 : decode cX0_wrongIn 63 = .ok (.iconst (-1), 1) := dk_2 (dk_at dksX0_wrongIn_2 16 rfl rfl)
theorem dX0_wrongIn_64 : decode cX0_wrongIn 64 = .ok (.if_icmp .eq 24, 3) := dk_159 0 24 (dk_at dksX0_wrongIn_2 17 rfl rfl)
theorem dX0_wrongIn_67 : decode cX0_wrongIn 67 = .ok (.aload_n 0, 1) := dk_42 (dk_at dksX0_wrongIn_2 20 rfl rfl)
theorem dX0_wrongIn_68 : decode cX0_wrongIn 68 = .ok (.getfield 123, 3) := dk_180 0 123 (dk_at dksX0_wrongIn_2 21 rfl rfl)
theorem dX0_wrongIn_71 : decode cX0_wrongIn 71 = .ok (.iload 5, 2) := dk_21 5 (dk_at dksX0_wrongIn_3 0 rfl rfl)
theorem dX0_wrongIn_73 : decode cX0_wrongIn 73 = .ok (.iaload, 1) := dk_46 (dk_at dksX0_wrongIn_3 2 rfl rfl)
theorem dX0_wrongIn_74 : decode cX0_wrongIn 74 = .ok (.aload_n 0, 1) := dk_42 (dk_at dksX0_wrongIn_3 3 rfl rfl)
theorem dX0_wrongIn_75 : decode cX0_wrongIn 75 = .ok (.iload_n 1, 1) := dk_27 (dk_at dksX0_wrongIn_3 4 rfl rfl)
theorem dX0_wrongIn_76 : decode cX0_wrongIn 76 = .ok (.iload 4, 2) := dk_21 4 (dk_at dksX0_wrongIn_3 5 rfl rfl)
theorem dX0_wrongIn_78 : decode cX0_wrongIn 78 = .ok (.invokevirtual 481, 3) := dk_182 1 225 (dk_at dksX0_wrongIn_3 7 rfl rfl)
theorem dX0_wrongIn_81 : decode cX0_wrongIn 81 = .ok (.if_icmp .eq 7, 3) := dk_159 0 7 (dk_at dksX0_wrongIn_3 10 rfl rfl)
theorem dX0_wrongIn_84 : decode cX0_wrongIn 84 = .ok (.iconst 1, 1) := dk_4 (dk_at dksX0_wrongIn_3 13 rfl rfl)
theorem dX0_wrongIn_85 : decode cX0_wrongIn 85 = .ok (.goto 4, 3) := dk_167 0 4 (dk_at dksX0_wrongIn_3 14 rfl rfl)
theorem dX0_wrongIn_88 : decode cX0_wrongIn 88 = .ok (.iconst 0, 1) := dk_3 (dk_at dksX0_wrongIn_3 17 rfl rfl)
theorem dX0_wrongIn_89 : decode cX0_wrongIn 89 = .ok (.iadd, 1) := dk_96 (dk_at dksX0_wrongIn_3 18 rfl rfl)
theorem dX0_wrongIn_90 : decode cX0_wrongIn 90 = .ok (.istore_n 3, 1) := dk_62 (dk_at dksX0_wrongIn_3 19 rfl rfl)
theorem dX0_wrongIn_91 : decode cX0_wrongIn 91 = .ok (.iinc 4 1, 3) := dk_132 4 1 (dk_at dksX0_wrongIn_3 20 rfl rfl)
theorem dX0_wrongIn_94 : decode cX0_wrongIn 94 = .ok (.goto (-89), 3) := dk_167 255 167 (dk_at dksX0_wrongIn_4 0 rfl rfl)
theorem dX0_wrongIn_97 : decode cX0_wrongIn 97 = .ok (.iload_n 3, 1) := dk_29 (dk_at dksX0_wrongIn_4 3 rfl rfl)
theorem dX0_wrongIn_98 : decode cX0_wrongIn 98 = .ok (.ireturn, 1) := dk_172 (dk_at dksX0_wrongIn_4 4 rfl rfl)
abbrev cX0_bad : ByteArray := prog_1_method_74_code
def yX0_bad : MethodName := ⟨RX0, "bad", "(I)I"⟩
def dkwX0_bad_3 : List UInt8 := [182, 0, 215, 172]
abbrev dktX0_bad_3 : List UInt8 := dkwX0_bad_3 ++ []
def dkwX0_bad_2 : List UInt8 := [167, 0, 11, 42, 180, 0, 114, 29, 4, 100, 46, 100, 96, 61, 132, 3, 1, 167, 255, 210, 42, 28]
abbrev dktX0_bad_2 : List UInt8 := dkwX0_bad_2 ++ dktX0_bad_3
def dkwX0_bad_1 : List UInt8 := [162, 0, 44, 42, 29, 27, 182, 1, 228, 158, 0, 29, 28, 42, 180, 0, 114, 29, 46, 29, 154, 0, 7, 3]
abbrev dktX0_bad_1 : List UInt8 := dkwX0_bad_1 ++ dktX0_bad_2
def dkwX0_bad_0 : List UInt8 := [27, 184, 1, 198, 154, 0, 9, 42, 8, 182, 0, 169, 172, 3, 61, 3, 62, 29, 42, 180, 1, 210]
abbrev dktX0_bad_0 : List UInt8 := dkwX0_bad_0 ++ dktX0_bad_1
theorem dksX0_bad_0 : cX0_bad.data.toList.drop 0 = dktX0_bad_0 := by decide +kernel
theorem dksX0_bad_1 : cX0_bad.data.toList.drop 22 = dktX0_bad_1 := dk_seg dksX0_bad_0 22 rfl rfl
theorem dksX0_bad_2 : cX0_bad.data.toList.drop 46 = dktX0_bad_2 := dk_seg dksX0_bad_1 24 rfl rfl
theorem dksX0_bad_3 : cX0_bad.data.toList.drop 68 = dktX0_bad_3 := dk_seg dksX0_bad_2 22 rfl rfl
theorem dX0_bad_0 : decode cX0_bad 0 = .ok (.iload_n 1, 1) := dk_27 (dk_at dksX0_bad_0 0 rfl rfl)
theorem dX0_bad_1 : decode cX0_bad 1 = .ok (.invokestatic 454, 3) := dk_184 1 198 (dk_at dksX0_bad_0 1 rfl rfl)
theorem dX0_bad_4 : decode cX0_bad 4 = .ok (.ifCond .ne 9, 3) := dk_154 0 9 (dk_at dksX0_bad_0 4 rfl rfl)
theorem dX0_bad_7 : decode cX0_bad 7 = .ok (.aload_n 0, 1) := dk_42 (dk_at dksX0_bad_0 7 rfl rfl)
theorem dX0_bad_8 : decode cX0_bad 8 = .ok (.iconst 5, 1) := dk_8 (dk_at dksX0_bad_0 8 rfl rfl)
theorem dX0_bad_9 : decode cX0_bad 9 = .ok (.invokevirtual 169, 3) := dk_182 0 169 (dk_at dksX0_bad_0 9 rfl rfl)
theorem dX0_bad_12 : decode cX0_bad 12 = .ok (.ireturn, 1) := dk_172 (dk_at dksX0_bad_0 12 rfl rfl)
theorem dX0_bad_13 : decode cX0_bad 13 = .ok (.iconst 0, 1) := dk_3 (dk_at dksX0_bad_0 13 rfl rfl)
theorem dX0_bad_14 : decode cX0_bad 14 = .ok (.istore_n 2, 1) := dk_61 (dk_at dksX0_bad_0 14 rfl rfl)
theorem dX0_bad_15 : decode cX0_bad 15 = .ok (.iconst 0, 1) := dk_3 (dk_at dksX0_bad_0 15 rfl rfl)
theorem dX0_bad_16 : decode cX0_bad 16 = .ok (.istore_n 3, 1) := dk_62 (dk_at dksX0_bad_0 16 rfl rfl)
theorem dX0_bad_17 : decode cX0_bad 17 = .ok (.iload_n 3, 1) := dk_29 (dk_at dksX0_bad_0 17 rfl rfl)
theorem dX0_bad_18 : decode cX0_bad 18 = .ok (.aload_n 0, 1) := dk_42 (dk_at dksX0_bad_0 18 rfl rfl)
theorem dX0_bad_19 : decode cX0_bad 19 = .ok (.getfield 466, 3) := dk_180 1 210 (dk_at dksX0_bad_0 19 rfl rfl)
theorem dX0_bad_22 : decode cX0_bad 22 = .ok (.if_icmp .ge 44, 3) := dk_162 0 44 (dk_at dksX0_bad_1 0 rfl rfl)
theorem dX0_bad_25 : decode cX0_bad 25 = .ok (.aload_n 0, 1) := dk_42 (dk_at dksX0_bad_1 3 rfl rfl)
theorem dX0_bad_26 : decode cX0_bad 26 = .ok (.iload_n 3, 1) := dk_29 (dk_at dksX0_bad_1 4 rfl rfl)
theorem dX0_bad_27 : decode cX0_bad 27 = .ok (.iload_n 1, 1) := dk_27 (dk_at dksX0_bad_1 5 rfl rfl)
theorem dX0_bad_28 : decode cX0_bad 28 = .ok (.invokevirtual 484, 3) := dk_182 1 228 (dk_at dksX0_bad_1 6 rfl rfl)
theorem dX0_bad_31 : decode cX0_bad 31 = .ok (.ifCond .le 29, 3) := dk_158 0 29 (dk_at dksX0_bad_1 9 rfl rfl)
theorem dX0_bad_34 : decode cX0_bad 34 = .ok (.iload_n 2, 1) := dk_28 (dk_at dksX0_bad_1 12 rfl rfl)
theorem dX0_bad_35 : decode cX0_bad 35 = .ok (.aload_n 0, 1) := dk_42 (dk_at dksX0_bad_1 13 rfl rfl)
theorem dX0_bad_36 : decode cX0_bad 36 = .ok (.getfield 114, 3) := dk_180 0 114 (dk_at dksX0_bad_1 14 rfl rfl)
theorem dX0_bad_39 : decode cX0_bad 39 = .ok (.iload_n 3, 1) := dk_29 (dk_at dksX0_bad_1 17 rfl rfl)
theorem dX0_bad_40 : decode cX0_bad 40 = .ok (.iaload, 1) := dk_46 (dk_at dksX0_bad_1 18 rfl rfl)
theorem dX0_bad_41 : decode cX0_bad 41 = .ok (.iload_n 3, 1) := dk_29 (dk_at dksX0_bad_1 19 rfl rfl)
theorem dX0_bad_42 : decode cX0_bad 42 = .ok (.ifCond .ne 7, 3) := dk_154 0 7 (dk_at dksX0_bad_1 20 rfl rfl)
theorem dX0_bad_45 : decode cX0_bad 45 = .ok (.iconst 0, 1) := dk_3 (dk_at dksX0_bad_1 23 rfl rfl)
theorem dX0_bad_46 : decode cX0_bad 46 = .ok (.goto 11, 3) := dk_167 0 11 (dk_at dksX0_bad_2 0 rfl rfl)
theorem dX0_bad_49 : decode cX0_bad 49 = .ok (.aload_n 0, 1) := dk_42 (dk_at dksX0_bad_2 3 rfl rfl)
theorem dX0_bad_50 : decode cX0_bad 50 = .ok (.getfield 114, 3) := dk_180 0 114 (dk_at dksX0_bad_2 4 rfl rfl)
theorem dX0_bad_53 : decode cX0_bad 53 = .ok (.iload_n 3, 1) := dk_29 (dk_at dksX0_bad_2 7 rfl rfl)
theorem dX0_bad_54 : decode cX0_bad 54 = .ok (.iconst 1, 1) := dk_4 (dk_at dksX0_bad_2 8 rfl rfl)
theorem dX0_bad_55 : decode cX0_bad 55 = .ok (.isub, 1) := dk_100 (dk_at dksX0_bad_2 9 rfl rfl)
theorem dX0_bad_56 : decode cX0_bad 56 = .ok (.iaload, 1) := dk_46 (dk_at dksX0_bad_2 10 rfl rfl)
theorem dX0_bad_57 : decode cX0_bad 57 = .ok (.isub, 1) := dk_100 (dk_at dksX0_bad_2 11 rfl rfl)
theorem dX0_bad_58 : decode cX0_bad 58 = .ok (.iadd, 1) := dk_96 (dk_at dksX0_bad_2 12 rfl rfl)
theorem dX0_bad_59 : decode cX0_bad 59 = .ok (.istore_n 2, 1) := dk_61 (dk_at dksX0_bad_2 13 rfl rfl)
theorem dX0_bad_60 : decode cX0_bad 60 = .ok (.iinc 3 1, 3) := dk_132 3 1 (dk_at dksX0_bad_2 14 rfl rfl)
theorem dX0_bad_63 : decode cX0_bad 63 = .ok (.goto (-46), 3) := dk_167 255 210 (dk_at dksX0_bad_2 17 rfl rfl)
theorem dX0_bad_66 : decode cX0_bad 66 = .ok (.aload_n 0, 1) := dk_42 (dk_at dksX0_bad_2 20 rfl rfl)
theorem dX0_bad_67 : decode cX0_bad 67 = .ok (.iload_n 2, 1) := dk_28 (dk_at dksX0_bad_2 21 rfl rfl)
theorem dX0_bad_68 : decode cX0_bad 68 = .ok (.invokevirtual 215, 3) := dk_182 0 215 (dk_at dksX0_bad_3 0 rfl rfl)
theorem dX0_bad_71 : decode cX0_bad 71 = .ok (.ireturn, 1) := dk_172 (dk_at dksX0_bad_3 3 rfl rfl)
abbrev cX0_job : ByteArray := prog_1_method_75_code
def yX0_job : MethodName := ⟨RX0, "job", "(III)I"⟩
def dkwX0_job_4 : List UInt8 := [181, 1, 231, 42, 42, 180, 1, 231, 4, 100, 182, 0, 215, 172]
abbrev dktX0_job_4 : List UInt8 := dkwX0_job_4 ++ []
def dkwX0_job_3 : List UInt8 := [42, 180, 1, 231, 28, 79, 42, 180, 0, 132, 42, 180, 1, 231, 29, 79, 42, 89, 180, 1, 231, 4, 96]
abbrev dktX0_job_3 : List UInt8 := dkwX0_job_3 ++ dktX0_job_4
def dkwX0_job_2 : List UInt8 := [160, 0, 10, 42, 16, 7, 182, 0, 169, 172, 42, 180, 0, 126, 42, 180, 1, 231, 27, 79, 42, 180, 0, 129]
abbrev dktX0_job_2 : List UInt8 := dkwX0_job_2 ++ dktX0_job_3
def dkwX0_job_1 : List UInt8 := [161, 0, 10, 29, 17, 3, 232, 164, 0, 9, 42, 8, 182, 0, 169, 172, 42, 180, 1, 231, 16, 7]
abbrev dktX0_job_1 : List UInt8 := dkwX0_job_1 ++ dktX0_job_2
def dkwX0_job_0 : List UInt8 := [27, 5, 161, 0, 32, 27, 16, 7, 163, 0, 26, 28, 4, 161, 0, 21, 28, 16, 12, 163, 0, 15, 29, 4]
abbrev dktX0_job_0 : List UInt8 := dkwX0_job_0 ++ dktX0_job_1
theorem dksX0_job_0 : cX0_job.data.toList.drop 0 = dktX0_job_0 := by decide +kernel
theorem dksX0_job_1 : cX0_job.data.toList.drop 24 = dktX0_job_1 := dk_seg dksX0_job_0 24 rfl rfl
theorem dksX0_job_2 : cX0_job.data.toList.drop 46 = dktX0_job_2 := dk_seg dksX0_job_1 22 rfl rfl
theorem dksX0_job_3 : cX0_job.data.toList.drop 70 = dktX0_job_3 := dk_seg dksX0_job_2 24 rfl rfl
theorem dksX0_job_4 : cX0_job.data.toList.drop 93 = dktX0_job_4 := dk_seg dksX0_job_3 23 rfl rfl
theorem dX0_job_0 : decode cX0_job 0 = .ok (.iload_n 1, 1) := dk_27 (dk_at dksX0_job_0 0 rfl rfl)
theorem dX0_job_1 : decode cX0_job 1 = .ok (.iconst 2, 1) := dk_5 (dk_at dksX0_job_0 1 rfl rfl)
theorem dX0_job_2 : decode cX0_job 2 = .ok (.if_icmp .lt 32, 3) := dk_161 0 32 (dk_at dksX0_job_0 2 rfl rfl)
theorem dX0_job_5 : decode cX0_job 5 = .ok (.iload_n 1, 1) := dk_27 (dk_at dksX0_job_0 5 rfl rfl)
theorem dX0_job_6 : decode cX0_job 6 = .ok (.bipush 7, 2) := dk_16 7 (dk_at dksX0_job_0 6 rfl rfl)
theorem dX0_job_8 : decode cX0_job 8 = .ok (.if_icmp .gt 26, 3) := dk_163 0 26 (dk_at dksX0_job_0 8 rfl rfl)
theorem dX0_job_11 : decode cX0_job 11 = .ok (.iload_n 2, 1) := dk_28 (dk_at dksX0_job_0 11 rfl rfl)
theorem dX0_job_12 : decode cX0_job 12 = .ok (.iconst 1, 1) := dk_4 (dk_at dksX0_job_0 12 rfl rfl)
theorem dX0_job_13 : decode cX0_job 13 = .ok (.if_icmp .lt 21, 3) := dk_161 0 21 (dk_at dksX0_job_0 13 rfl rfl)
theorem dX0_job_16 : decode cX0_job 16 = .ok (.iload_n 2, 1) := dk_28 (dk_at dksX0_job_0 16 rfl rfl)
theorem dX0_job_17 : decode cX0_job 17 = .ok (.bipush 12, 2) := dk_16 12 (dk_at dksX0_job_0 17 rfl rfl)
theorem dX0_job_19 : decode cX0_job 19 = .ok (.if_icmp .gt 15, 3) := dk_163 0 15 (dk_at dksX0_job_0 19 rfl rfl)
theorem dX0_job_22 : decode cX0_job 22 = .ok (.iload_n 3, 1) := dk_29 (dk_at dksX0_job_0 22 rfl rfl)
theorem dX0_job_23 : decode cX0_job 23 = .ok (.iconst 1, 1) := dk_4 (dk_at dksX0_job_0 23 rfl rfl)
theorem dX0_job_24 : decode cX0_job 24 = .ok (.if_icmp .lt 10, 3) := dk_161 0 10 (dk_at dksX0_job_1 0 rfl rfl)
theorem dX0_job_27 : decode cX0_job 27 = .ok (.iload_n 3, 1) := dk_29 (dk_at dksX0_job_1 3 rfl rfl)
theorem dX0_job_28 : decode cX0_job 28 = .ok (.sipush 1000, 3) := dk_17 3 232 (dk_at dksX0_job_1 4 rfl rfl)
theorem dX0_job_31 : decode cX0_job 31 = .ok (.if_icmp .le 9, 3) := dk_164 0 9 (dk_at dksX0_job_1 7 rfl rfl)
theorem dX0_job_34 : decode cX0_job 34 = .ok (.aload_n 0, 1) := dk_42 (dk_at dksX0_job_1 10 rfl rfl)
theorem dX0_job_35 : decode cX0_job 35 = .ok (.iconst 5, 1) := dk_8 (dk_at dksX0_job_1 11 rfl rfl)
theorem dX0_job_36 : decode cX0_job 36 = .ok (.invokevirtual 169, 3) := dk_182 0 169 (dk_at dksX0_job_1 12 rfl rfl)
theorem dX0_job_39 : decode cX0_job 39 = .ok (.ireturn, 1) := dk_172 (dk_at dksX0_job_1 15 rfl rfl)
theorem dX0_job_40 : decode cX0_job 40 = .ok (.aload_n 0, 1) := dk_42 (dk_at dksX0_job_1 16 rfl rfl)
theorem dX0_job_41 : decode cX0_job 41 = .ok (.getfield 487, 3) := dk_180 1 231 (dk_at dksX0_job_1 17 rfl rfl)
theorem dX0_job_44 : decode cX0_job 44 = .ok (.bipush 7, 2) := dk_16 7 (dk_at dksX0_job_1 20 rfl rfl)
theorem dX0_job_46 : decode cX0_job 46 = .ok (.if_icmp .ne 10, 3) := dk_160 0 10 (dk_at dksX0_job_2 0 rfl rfl)
theorem dX0_job_49 : decode cX0_job 49 = .ok (.aload_n 0, 1) := dk_42 (dk_at dksX0_job_2 3 rfl rfl)
theorem dX0_job_50 : decode cX0_job 50 = .ok (.bipush 7, 2) := dk_16 7 (dk_at dksX0_job_2 4 rfl rfl)
theorem dX0_job_52 : decode cX0_job 52 = .ok (.invokevirtual 169, 3) := dk_182 0 169 (dk_at dksX0_job_2 6 rfl rfl)
theorem dX0_job_55 : decode cX0_job 55 = .ok (.ireturn, 1) := dk_172 (dk_at dksX0_job_2 9 rfl rfl)
theorem dX0_job_56 : decode cX0_job 56 = .ok (.aload_n 0, 1) := dk_42 (dk_at dksX0_job_2 10 rfl rfl)
theorem dX0_job_57 : decode cX0_job 57 = .ok (.getfield 126, 3) := dk_180 0 126 (dk_at dksX0_job_2 11 rfl rfl)
theorem dX0_job_60 : decode cX0_job 60 = .ok (.aload_n 0, 1) := dk_42 (dk_at dksX0_job_2 14 rfl rfl)
theorem dX0_job_61 : decode cX0_job 61 = .ok (.getfield 487, 3) := dk_180 1 231 (dk_at dksX0_job_2 15 rfl rfl)
theorem dX0_job_64 : decode cX0_job 64 = .ok (.iload_n 1, 1) := dk_27 (dk_at dksX0_job_2 18 rfl rfl)
theorem dX0_job_65 : decode cX0_job 65 = .ok (.iastore, 1) := dk_79 (dk_at dksX0_job_2 19 rfl rfl)
theorem dX0_job_66 : decode cX0_job 66 = .ok (.aload_n 0, 1) := dk_42 (dk_at dksX0_job_2 20 rfl rfl)
theorem dX0_job_67 : decode cX0_job 67 = .ok (.getfield 129, 3) := dk_180 0 129 (dk_at dksX0_job_2 21 rfl rfl)
theorem dX0_job_70 : decode cX0_job 70 = .ok (.aload_n 0, 1) := dk_42 (dk_at dksX0_job_3 0 rfl rfl)
theorem dX0_job_71 : decode cX0_job 71 = .ok (.getfield 487, 3) := dk_180 1 231 (dk_at dksX0_job_3 1 rfl rfl)
theorem dX0_job_74 : decode cX0_job 74 = .ok (.iload_n 2, 1) := dk_28 (dk_at dksX0_job_3 4 rfl rfl)
theorem dX0_job_75 : decode cX0_job 75 = .ok (.iastore, 1) := dk_79 (dk_at dksX0_job_3 5 rfl rfl)
theorem dX0_job_76 : decode cX0_job 76 = .ok (.aload_n 0, 1) := dk_42 (dk_at dksX0_job_3 6 rfl rfl)
theorem dX0_job_77 : decode cX0_job 77 = .ok (.getfield 132, 3) := dk_180 0 132 (dk_at dksX0_job_3 7 rfl rfl)
theorem dX0_job_80 : decode cX0_job 80 = .ok (.aload_n 0, 1) := dk_42 (dk_at dksX0_job_3 10 rfl rfl)
theorem dX0_job_81 : decode cX0_job 81 = .ok (.getfield 487, 3) := dk_180 1 231 (dk_at dksX0_job_3 11 rfl rfl)
theorem dX0_job_84 : decode cX0_job 84 = .ok (.iload_n 3, 1) := dk_29 (dk_at dksX0_job_3 14 rfl rfl)
theorem dX0_job_85 : decode cX0_job 85 = .ok (.iastore, 1) := dk_79 (dk_at dksX0_job_3 15 rfl rfl)
theorem dX0_job_86 : decode cX0_job 86 = .ok (.aload_n 0, 1) := dk_42 (dk_at dksX0_job_3 16 rfl rfl)
theorem dX0_job_87 : decode cX0_job 87 = .ok (.dup, 1) := dk_89 (dk_at dksX0_job_3 17 rfl rfl)
theorem dX0_job_88 : decode cX0_job 88 = .ok (.getfield 487, 3) := dk_180 1 231 (dk_at dksX0_job_3 18 rfl rfl)
theorem dX0_job_91 : decode cX0_job 91 = .ok (.iconst 1, 1) := dk_4 (dk_at dksX0_job_3 21 rfl rfl)
theorem dX0_job_92 : decode cX0_job 92 = .ok (.iadd, 1) := dk_96 (dk_at dksX0_job_3 22 rfl rfl)
theorem dX0_job_93 : decode cX0_job 93 = .ok (.putfield 487, 3) := dk_181 1 231 (dk_at dksX0_job_4 0 rfl rfl)
theorem dX0_job_96 : decode cX0_job 96 = .ok (.aload_n 0, 1) := dk_42 (dk_at dksX0_job_4 3 rfl rfl)
theorem dX0_job_97 : decode cX0_job 97 = .ok (.aload_n 0, 1) := dk_42 (dk_at dksX0_job_4 4 rfl rfl)
theorem dX0_job_98 : decode cX0_job 98 = .ok (.getfield 487, 3) := dk_180 1 231 (dk_at dksX0_job_4 5 rfl rfl)
theorem dX0_job_101 : decode cX0_job 101 = .ok (.iconst 1, 1) := dk_4 (dk_at dksX0_job_4 8 rfl rfl)
theorem dX0_job_102 : decode cX0_job 102 = .ok (.isub, 1) := dk_100 (dk_at dksX0_job_4 9 rfl rfl)
theorem dX0_job_103 : decode cX0_job 103 = .ok (.invokevirtual 215, 3) := dk_182 0 215 (dk_at dksX0_job_4 10 rfl rfl)
theorem dX0_job_106 : decode cX0_job 106 = .ok (.ireturn, 1) := dk_172 (dk_at dksX0_job_4 13 rfl rfl)
abbrev cX0_part : ByteArray := prog_1_method_78_code
def yX0_part : MethodName := ⟨RX0, "part", "()I"⟩
def dkwX0_part_1 : List UInt8 := [172]
abbrev dktX0_part_1 : List UInt8 := dkwX0_part_1 ++ []
def dkwX0_part_0 : List UInt8 := [42, 182, 1, 240, 153, 0, 14, 42, 42, 180, 1, 234, 182, 0, 215, 167, 0, 9, 42, 16, 9, 182, 0, 169]
abbrev dktX0_part_0 : List UInt8 := dkwX0_part_0 ++ dktX0_part_1
theorem dksX0_part_0 : cX0_part.data.toList.drop 0 = dktX0_part_0 := by decide +kernel
theorem dksX0_part_1 : cX0_part.data.toList.drop 24 = dktX0_part_1 := dk_seg dksX0_part_0 24 rfl rfl
theorem dX0_part_0 : decode cX0_part 0 = .ok (.aload_n 0, 1) := dk_42 (dk_at dksX0_part_0 0 rfl rfl)
theorem dX0_part_1 : decode cX0_part 1 = .ok (.invokevirtual 496, 3) := dk_182 1 240 (dk_at dksX0_part_0 1 rfl rfl)
theorem dX0_part_4 : decode cX0_part 4 = .ok (.ifCond .eq 14, 3) := dk_153 0 14 (dk_at dksX0_part_0 4 rfl rfl)
theorem dX0_part_7 : decode cX0_part 7 = .ok (.aload_n 0, 1) := dk_42 (dk_at dksX0_part_0 7 rfl rfl)
theorem dX0_part_8 : decode cX0_part 8 = .ok (.aload_n 0, 1) := dk_42 (dk_at dksX0_part_0 8 rfl rfl)
theorem dX0_part_9 : decode cX0_part 9 = .ok (.getfield 490, 3) := dk_180 1 234 (dk_at dksX0_part_0 9 rfl rfl)
theorem dX0_part_12 : decode cX0_part 12 = .ok (.invokevirtual 215, 3) := dk_182 0 215 (dk_at dksX0_part_0 12 rfl rfl)
theorem dX0_part_15 : decode cX0_part 15 = .ok (.goto 9, 3) := dk_167 0 9 (dk_at dksX0_part_0 15 rfl rfl)
theorem dX0_part_18 : decode cX0_part 18 = .ok (.aload_n 0, 1) := dk_42 (dk_at dksX0_part_0 18 rfl rfl)
theorem dX0_part_19 : decode cX0_part 19 = .ok (.bipush 9, 2) := dk_16 9 (dk_at dksX0_part_0 19 rfl rfl)
theorem dX0_part_21 : decode cX0_part 21 = .ok (.invokevirtual 169, 3) := dk_182 0 169 (dk_at dksX0_part_0 21 rfl rfl)
theorem dX0_part_24 : decode cX0_part 24 = .ok (.ireturn, 1) := dk_172 (dk_at dksX0_part_1 0 rfl rfl)
abbrev cX0_hasParts : ByteArray := prog_1_method_77_code
def yX0_hasParts : MethodName := ⟨RX0, "hasParts", "()Z"⟩
def dkwX0_hasParts_1 : List UInt8 := [167, 255, 241, 42, 3, 3, 182, 1, 237, 42, 180, 1, 234, 2, 159, 0, 7, 4, 167, 0, 4, 3, 172]
abbrev dktX0_hasParts_1 : List UInt8 := dkwX0_hasParts_1 ++ []
def dkwX0_hasParts_0 : List UInt8 := [42, 2, 181, 1, 234, 3, 60, 27, 7, 162, 0, 16, 42, 180, 0, 141, 27, 3, 79, 132, 1, 1]
abbrev dktX0_hasParts_0 : List UInt8 := dkwX0_hasParts_0 ++ dktX0_hasParts_1
theorem dksX0_hasParts_0 : cX0_hasParts.data.toList.drop 0 = dktX0_hasParts_0 := by decide +kernel
theorem dksX0_hasParts_1 : cX0_hasParts.data.toList.drop 22 = dktX0_hasParts_1 := dk_seg dksX0_hasParts_0 22 rfl rfl
theorem dX0_hasParts_0 : decode cX0_hasParts 0 = .ok (.aload_n 0, 1) := dk_42 (dk_at dksX0_hasParts_0 0 rfl rfl)
theorem dX0_hasParts_1 : decode cX0_hasParts 1 = .ok (.iconst (-1), 1) := dk_2 (dk_at dksX0_hasParts_0 1 rfl rfl)
theorem dX0_hasParts_2 : decode cX0_hasParts 2 = .ok (.putfield 490, 3) := dk_181 1 234 (dk_at dksX0_hasParts_0 2 rfl rfl)
theorem dX0_hasParts_5 : decode cX0_hasParts 5 = .ok (.iconst 0, 1) := dk_3 (dk_at dksX0_hasParts_0 5 rfl rfl)
theorem dX0_hasParts_6 : decode cX0_hasParts 6 = .ok (.istore_n 1, 1) := dk_60 (dk_at dksX0_hasParts_0 6 rfl rfl)
theorem dX0_hasParts_7 : decode cX0_hasParts 7 = .ok (.iload_n 1, 1) := dk_27 (dk_at dksX0_hasParts_0 7 rfl rfl)
theorem dX0_hasParts_8 : decode cX0_hasParts 8 = .ok (.iconst 4, 1) := dk_7 (dk_at dksX0_hasParts_0 8 rfl rfl)
theorem dX0_hasParts_9 : decode cX0_hasParts 9 = .ok (.if_icmp .ge 16, 3) := dk_162 0 16 (dk_at dksX0_hasParts_0 9 rfl rfl)
theorem dX0_hasParts_12 : decode cX0_hasParts 12 = .ok (.aload_n 0, 1) := dk_42 (dk_at dksX0_hasParts_0 12 rfl rfl)
theorem dX0_hasParts_13 : decode cX0_hasParts 13 = .ok (.getfield 141, 3) := dk_180 0 141 (dk_at dksX0_hasParts_0 13 rfl rfl)
theorem dX0_hasParts_16 : decode cX0_hasParts 16 = .ok (.iload_n 1, 1) := dk_27 (dk_at dksX0_hasParts_0 16 rfl rfl)
theorem dX0_hasParts_17 : decode cX0_hasParts 17 = .ok (.iconst 0, 1) := dk_3 (dk_at dksX0_hasParts_0 17 rfl rfl)
theorem dX0_hasParts_18 : decode cX0_hasParts 18 = .ok (.iastore, 1) := dk_79 (dk_at dksX0_hasParts_0 18 rfl rfl)
theorem dX0_hasParts_19 : decode cX0_hasParts 19 = .ok (.iinc 1 1, 3) := dk_132 1 1 (dk_at dksX0_hasParts_0 19 rfl rfl)
theorem dX0_hasParts_22 : decode cX0_hasParts 22 = .ok (.goto (-15), 3) := dk_167 255 241 (dk_at dksX0_hasParts_1 0 rfl rfl)
theorem dX0_hasParts_25 : decode cX0_hasParts 25 = .ok (.aload_n 0, 1) := dk_42 (dk_at dksX0_hasParts_1 3 rfl rfl)
theorem dX0_hasParts_26 : decode cX0_hasParts 26 = .ok (.iconst 0, 1) := dk_3 (dk_at dksX0_hasParts_1 4 rfl rfl)
theorem dX0_hasParts_27 : decode cX0_hasParts 27 = .ok (.iconst 0, 1) := dk_3 (dk_at dksX0_hasParts_1 5 rfl rfl)
theorem dX0_hasParts_28 : decode cX0_hasParts 28 = .ok (.invokevirtual 493, 3) := dk_182 1 237 (dk_at dksX0_hasParts_1 6 rfl rfl)
theorem dX0_hasParts_31 : decode cX0_hasParts 31 = .ok (.aload_n 0, 1) := dk_42 (dk_at dksX0_hasParts_1 9 rfl rfl)
theorem dX0_hasParts_32 : decode cX0_hasParts 32 = .ok (.getfield 490, 3) := dk_180 1 234 (dk_at dksX0_hasParts_1 10 rfl rfl)
theorem dX0_hasParts_35 : decode cX0_hasParts 35 = .ok (.iconst (-1), 1) := dk_2 (dk_at dksX0_hasParts_1 13 rfl rfl)
theorem dX0_hasParts_36 : decode cX0_hasParts 36 = .ok (.if_icmp .eq 7, 3) := dk_159 0 7 (dk_at dksX0_hasParts_1 14 rfl rfl)
theorem dX0_hasParts_39 : decode cX0_hasParts 39 = .ok (.iconst 1, 1) := dk_4 (dk_at dksX0_hasParts_1 17 rfl rfl)
theorem dX0_hasParts_40 : decode cX0_hasParts 40 = .ok (.goto 4, 3) := dk_167 0 4 (dk_at dksX0_hasParts_1 18 rfl rfl)
theorem dX0_hasParts_43 : decode cX0_hasParts 43 = .ok (.iconst 0, 1) := dk_3 (dk_at dksX0_hasParts_1 21 rfl rfl)
theorem dX0_hasParts_44 : decode cX0_hasParts 44 = .ok (.ireturn, 1) := dk_172 (dk_at dksX0_hasParts_1 22 rfl rfl)
abbrev cX0_parts : ByteArray := prog_1_method_76_code
def yX0_parts : MethodName := ⟨RX0, "parts", "(II)V"⟩
def dkwX0_parts_6 : List UInt8 := [46, 42, 180, 0, 132, 27, 46, 100, 79, 132, 3, 1, 167, 255, 152, 177]
abbrev dktX0_parts_6 : List UInt8 := dkwX0_parts_6 ++ []
def dkwX0_parts_5 : List UInt8 := [79, 42, 27, 4, 96, 28, 42, 180, 0, 141, 29, 46, 184, 1, 156, 182, 1, 237, 42, 180, 0, 141, 29, 92]
abbrev dktX0_parts_5 : List UInt8 := dkwX0_parts_5 ++ dktX0_parts_6
def dkwX0_parts_4 : List UInt8 := [167, 0, 57, 42, 180, 0, 141, 29, 92, 46, 42, 180, 0, 132, 27, 46, 96, 79, 42, 180, 0, 135, 27, 29]
abbrev dktX0_parts_4 : List UInt8 := dkwX0_parts_4 ++ dktX0_parts_5
def dkwX0_parts_3 : List UInt8 := [46, 161, 0, 78, 42, 180, 0, 17, 29, 50, 180, 0, 201, 42, 180, 0, 129, 27, 46, 162, 0, 6]
abbrev dktX0_parts_3 : List UInt8 := dkwX0_parts_3 ++ dktX0_parts_4
def dkwX0_parts_2 : List UInt8 := [3, 62, 29, 42, 180, 0, 193, 162, 0, 102, 42, 180, 0, 17, 29, 50, 180, 0, 199, 42, 180, 0, 126, 27]
abbrev dktX0_parts_2 : List UInt8 := dkwX0_parts_2 ++ dktX0_parts_3
def dkwX0_parts_1 : List UInt8 := [160, 0, 24, 42, 28, 181, 1, 234, 42, 180, 0, 135, 3, 42, 180, 0, 138, 3, 16, 7, 184, 0, 185, 177]
abbrev dktX0_parts_1 : List UInt8 := dkwX0_parts_1 ++ dktX0_parts_2
def dkwX0_parts_0 : List UInt8 := [42, 180, 1, 234, 2, 159, 0, 12, 28, 42, 180, 1, 234, 161, 0, 4, 177, 27, 42, 180, 1, 231]
abbrev dktX0_parts_0 : List UInt8 := dkwX0_parts_0 ++ dktX0_parts_1
theorem dksX0_parts_0 : cX0_parts.data.toList.drop 0 = dktX0_parts_0 := by decide +kernel
theorem dksX0_parts_1 : cX0_parts.data.toList.drop 22 = dktX0_parts_1 := dk_seg dksX0_parts_0 22 rfl rfl
theorem dksX0_parts_2 : cX0_parts.data.toList.drop 46 = dktX0_parts_2 := dk_seg dksX0_parts_1 24 rfl rfl
theorem dksX0_parts_3 : cX0_parts.data.toList.drop 70 = dktX0_parts_3 := dk_seg dksX0_parts_2 24 rfl rfl
theorem dksX0_parts_4 : cX0_parts.data.toList.drop 92 = dktX0_parts_4 := dk_seg dksX0_parts_3 22 rfl rfl
theorem dksX0_parts_5 : cX0_parts.data.toList.drop 116 = dktX0_parts_5 := dk_seg dksX0_parts_4 24 rfl rfl
theorem dksX0_parts_6 : cX0_parts.data.toList.drop 140 = dktX0_parts_6 := dk_seg dksX0_parts_5 24 rfl rfl
theorem dX0_parts_0 : decode cX0_parts 0 = .ok (.aload_n 0, 1) := dk_42 (dk_at dksX0_parts_0 0 rfl rfl)
theorem dX0_parts_1 : decode cX0_parts 1 = .ok (.getfield 490, 3) := dk_180 1 234 (dk_at dksX0_parts_0 1 rfl rfl)
theorem dX0_parts_4 : decode cX0_parts 4 = .ok (.iconst (-1), 1) := dk_2 (dk_at dksX0_parts_0 4 rfl rfl)
theorem dX0_parts_5 : decode cX0_parts 5 = .ok (.if_icmp .eq 12, 3) := dk_159 0 12 (dk_at dksX0_parts_0 5 rfl rfl)
theorem dX0_parts_8 : decode cX0_parts 8 = .ok (.iload_n 2, 1) := dk_28 (dk_at dksX0_parts_0 8 rfl rfl)
theorem dX0_parts_9 : decode cX0_parts 9 = .ok (.aload_n 0, 1) := dk_42 (dk_at dksX0_parts_0 9 rfl rfl)
theorem dX0_parts_10 : decode cX0_parts 10 = .ok (.getfield 490, 3) := dk_180 1 234 (dk_at dksX0_parts_0 10 rfl rfl)
theorem dX0_parts_13 : decode cX0_parts 13 = .ok (.if_icmp .lt 4, 3) := dk_161 0 4 (dk_at dksX0_parts_0 13 rfl rfl)
theorem dX0_parts_16 : decode cX0_parts 16 = .ok (.return_, 1) := dk_177 (dk_at dksX0_parts_0 16 rfl rfl)
theorem dX0_parts_17 : decode cX0_parts 17 = .ok (.iload_n 1, 1) := dk_27 (dk_at dksX0_parts_0 17 rfl rfl)
theorem dX0_parts_18 : decode cX0_parts 18 = .ok (.aload_n 0, 1) := dk_42 (dk_at dksX0_parts_0 18 rfl rfl)
theorem dX0_parts_19 : decode cX0_parts 19 = .ok (.getfield 487, 3) := dk_180 1 231 (dk_at dksX0_parts_0 19 rfl rfl)
theorem dX0_parts_22 : decode cX0_parts 22 = .ok (.if_icmp .ne 24, 3) := dk_160 0 24 (dk_at dksX0_parts_1 0 rfl rfl)
theorem dX0_parts_25 : decode cX0_parts 25 = .ok (.aload_n 0, 1) := dk_42 (dk_at dksX0_parts_1 3 rfl rfl)
theorem dX0_parts_26 : decode cX0_parts 26 = .ok (.iload_n 2, 1) := dk_28 (dk_at dksX0_parts_1 4 rfl rfl)
theorem dX0_parts_27 : decode cX0_parts 27 = .ok (.putfield 490, 3) := dk_181 1 234 (dk_at dksX0_parts_1 5 rfl rfl)
theorem dX0_parts_30 : decode cX0_parts 30 = .ok (.aload_n 0, 1) := dk_42 (dk_at dksX0_parts_1 8 rfl rfl)
theorem dX0_parts_31 : decode cX0_parts 31 = .ok (.getfield 135, 3) := dk_180 0 135 (dk_at dksX0_parts_1 9 rfl rfl)
theorem dX0_parts_34 : decode cX0_parts 34 = .ok (.iconst 0, 1) := dk_3 (dk_at dksX0_parts_1 12 rfl rfl)
theorem dX0_parts_35 : decode cX0_parts 35 = .ok (.aload_n 0, 1) := dk_42 (dk_at dksX0_parts_1 13 rfl rfl)
theorem dX0_parts_36 : decode cX0_parts 36 = .ok (.getfield 138, 3) := dk_180 0 138 (dk_at dksX0_parts_1 14 rfl rfl)
theorem dX0_parts_39 : decode cX0_parts 39 = .ok (.iconst 0, 1) := dk_3 (dk_at dksX0_parts_1 17 rfl rfl)
theorem dX0_parts_40 : decode cX0_parts 40 = .ok (.bipush 7, 2) := dk_16 7 (dk_at dksX0_parts_1 18 rfl rfl)
theorem dX0_parts_42 : decode cX0_parts 42 = .ok (.invokestatic 185, 3) := dk_184 0 185 (dk_at dksX0_parts_1 20 rfl rfl)
theorem dX0_parts_45 : decode cX0_parts 45 = .ok (.return_, 1) := dk_177 (dk_at dksX0_parts_1 23 rfl rfl)
theorem dX0_parts_46 : decode cX0_parts 46 = .ok (.iconst 0, 1) := dk_3 (dk_at dksX0_parts_2 0 rfl rfl)
theorem dX0_parts_47 : decode cX0_parts 47 = .ok (.istore_n 3, 1) := dk_62 (dk_at dksX0_parts_2 1 rfl rfl)
theorem dX0_parts_48 : decode cX0_parts 48 = .ok (.iload_n 3, 1) := dk_29 (dk_at dksX0_parts_2 2 rfl rfl)
theorem dX0_parts_49 : decode cX0_parts 49 = .ok (.aload_n 0, 1) := dk_42 (dk_at dksX0_parts_2 3 rfl rfl)
theorem dX0_parts_50 : decode cX0_parts 50 = .ok (.getfield 193, 3) := dk_180 0 193 (dk_at dksX0_parts_2 4 rfl rfl)
theorem dX0_parts_53 : decode cX0_parts 53 = .ok (.if_icmp .ge 102, 3) := dk_162 0 102 (dk_at dksX0_parts_2 7 rfl rfl)
theorem dX0_parts_56 : decode cX0_parts 56 = .ok (.aload_n 0, 1) := dk_42 (dk_at dksX0_parts_2 10 rfl rfl)
theorem dX0_parts_57 : decode cX0_parts 57 = .ok (.getfield 17, 3) := dk_180 0 17 (dk_at dksX0_parts_2 11 rfl rfl)
theorem dX0_parts_60 : decode cX0_parts 60 = .ok (.iload_n 3, 1) := dk_29 (dk_at dksX0_parts_2 14 rfl rfl)
theorem dX0_parts_61 : decode cX0_parts 61 = .ok (.aaload, 1) := dk_50 (dk_at dksX0_parts_2 15 rfl rfl)
theorem dX0_parts_62 : decode cX0_parts 62 = .ok (.getfield 199, 3) := dk_180 0 199 (dk_at dksX0_parts_2 16 rfl rfl)
theorem dX0_parts_65 : decode cX0_parts 65 = .ok (.aload_n 0, 1) := dk_42 (dk_at dksX0_parts_2 19 rfl rfl)
theorem dX0_parts_66 : decode cX0_parts 66 = .ok (.getfield 126, 3) := dk_180 0 126 (dk_at dksX0_parts_2 20 rfl rfl)
theorem dX0_parts_69 : decode cX0_parts 69 = .ok (.iload_n 1, 1) := dk_27 (dk_at dksX0_parts_2 23 rfl rfl)
theorem dX0_parts_70 : decode cX0_parts 70 = .ok (.iaload, 1) := dk_46 (dk_at dksX0_parts_3 0 rfl rfl)
theorem dX0_parts_71 : decode cX0_parts 71 = .ok (.if_icmp .lt 78, 3) := dk_161 0 78 (dk_at dksX0_parts_3 1 rfl rfl)
theorem dX0_parts_74 : decode cX0_parts 74 = .ok (.aload_n 0, 1) := dk_42 (dk_at dksX0_parts_3 4 rfl rfl)
theorem dX0_parts_75 : decode cX0_parts 75 = .ok (.getfield 17, 3) := dk_180 0 17 (dk_at dksX0_parts_3 5 rfl rfl)
theorem dX0_parts_78 : decode cX0_parts 78 = .ok (.iload_n 3, 1) := dk_29 (dk_at dksX0_parts_3 8 rfl rfl)
theorem dX0_parts_79 : decode cX0_parts 79 = .ok (.aaload, 1) := dk_50 (dk_at dksX0_parts_3 9 rfl rfl)
theorem dX0_parts_80 : decode cX0_parts 80 = .ok (.getfield 201, 3) := dk_180 0 201 (dk_at dksX0_parts_3 10 rfl rfl)
theorem dX0_parts_83 : decode cX0_parts 83 = .ok (.aload_n 0, 1) := dk_42 (dk_at dksX0_parts_3 13 rfl rfl)
theorem dX0_parts_84 : decode cX0_parts 84 = .ok (.getfield 129, 3) := dk_180 0 129 (dk_at dksX0_parts_3 14 rfl rfl)
theorem dX0_parts_87 : decode cX0_parts 87 = .ok (.iload_n 1, 1) := dk_27 (dk_at dksX0_parts_3 17 rfl rfl)
theorem dX0_parts_88 : decode cX0_parts 88 = .ok (.iaload, 1) := dk_46 (dk_at dksX0_parts_3 18 rfl rfl)
theorem dX0_parts_89 : decode cX0_parts 89 = .ok (.if_icmp .ge 6, 3) := dk_162 0 6 (dk_at dksX0_parts_3 19 rfl rfl)
theorem dX0_parts_92 : decode cX0_parts 92 = .ok (.goto 57, 3) := dk_167 0 57 (dk_at dksX0_parts_4 0 rfl rfl)
theorem dX0_parts_95 : decode cX0_parts 95 = .ok (.aload_n 0, 1) := dk_42 (dk_at dksX0_parts_4 3 rfl rfl)
theorem dX0_parts_96 : decode cX0_parts 96 = .ok (.getfield 141, 3) := dk_180 0 141 (dk_at dksX0_parts_4 4 rfl rfl)
theorem dX0_parts_99 : decode cX0_parts 99 = .ok (.iload_n 3, 1) := dk_29 (dk_at dksX0_parts_4 7 rfl rfl)
theorem dX0_parts_100 : decode cX0_parts 100 = .ok (.dup2, 1) := dk_92 (dk_at dksX0_parts_4 8 rfl rfl)
theorem dX0_parts_101 : decode cX0_parts 101 = .ok (.iaload, 1) := dk_46 (dk_at dksX0_parts_4 9 rfl rfl)
theorem dX0_parts_102 : decode cX0_parts 102 = .ok (.aload_n 0, 1) := dk_42 (dk_at dksX0_parts_4 10 rfl rfl)
theorem dX0_parts_103 : decode cX0_parts 103 = .ok (.getfield 132, 3) := dk_180 0 132 (dk_at dksX0_parts_4 11 rfl rfl)
theorem dX0_parts_106 : decode cX0_parts 106 = .ok (.iload_n 1, 1) := dk_27 (dk_at dksX0_parts_4 14 rfl rfl)
theorem dX0_parts_107 : decode cX0_parts 107 = .ok (.iaload, 1) := dk_46 (dk_at dksX0_parts_4 15 rfl rfl)
theorem dX0_parts_108 : decode cX0_parts 108 = .ok (.iadd, 1) := dk_96 (dk_at dksX0_parts_4 16 rfl rfl)
theorem dX0_parts_109 : decode cX0_parts 109 = .ok (.iastore, 1) := dk_79 (dk_at dksX0_parts_4 17 rfl rfl)
theorem dX0_parts_110 : decode cX0_parts 110 = .ok (.aload_n 0, 1) := dk_42 (dk_at dksX0_parts_4 18 rfl rfl)
theorem dX0_parts_111 : decode cX0_parts 111 = .ok (.getfield 135, 3) := dk_180 0 135 (dk_at dksX0_parts_4 19 rfl rfl)
theorem dX0_parts_114 : decode cX0_parts 114 = .ok (.iload_n 1, 1) := dk_27 (dk_at dksX0_parts_4 22 rfl rfl)
theorem dX0_parts_115 : decode cX0_parts 115 = .ok (.iload_n 3, 1) := dk_29 (dk_at dksX0_parts_4 23 rfl rfl)
theorem dX0_parts_116 : decode cX0_parts 116 = .ok (.iastore, 1) := dk_79 (dk_at dksX0_parts_5 0 rfl rfl)
theorem dX0_parts_117 : decode cX0_parts 117 = .ok (.aload_n 0, 1) := dk_42 (dk_at dksX0_parts_5 1 rfl rfl)
theorem dX0_parts_118 : decode cX0_parts 118 = .ok (.iload_n 1, 1) := dk_27 (dk_at dksX0_parts_5 2 rfl rfl)
theorem dX0_parts_119 : decode cX0_parts 119 = .ok (.iconst 1, 1) := dk_4 (dk_at dksX0_parts_5 3 rfl rfl)
theorem dX0_parts_120 : decode cX0_parts 120 = .ok (.iadd, 1) := dk_96 (dk_at dksX0_parts_5 4 rfl rfl)
theorem dX0_parts_121 : decode cX0_parts 121 = .ok (.iload_n 2, 1) := dk_28 (dk_at dksX0_parts_5 5 rfl rfl)
theorem dX0_parts_122 : decode cX0_parts 122 = .ok (.aload_n 0, 1) := dk_42 (dk_at dksX0_parts_5 6 rfl rfl)
theorem dX0_parts_123 : decode cX0_parts 123 = .ok (.getfield 141, 3) := dk_180 0 141 (dk_at dksX0_parts_5 7 rfl rfl)
theorem dX0_parts_126 : decode cX0_parts 126 = .ok (.iload_n 3, 1) := dk_29 (dk_at dksX0_parts_5 10 rfl rfl)
theorem dX0_parts_127 : decode cX0_parts 127 = .ok (.iaload, 1) := dk_46 (dk_at dksX0_parts_5 11 rfl rfl)
theorem dX0_parts_128 : decode cX0_parts 128 = .ok (.invokestatic 412, 3) := dk_184 1 156 (dk_at dksX0_parts_5 12 rfl rfl)
theorem dX0_parts_131 : decode cX0_parts 131 = .ok (.invokevirtual 493, 3) := dk_182 1 237 (dk_at dksX0_parts_5 15 rfl rfl)
theorem dX0_parts_134 : decode cX0_parts 134 = .ok (.aload_n 0, 1) := dk_42 (dk_at dksX0_parts_5 18 rfl rfl)
theorem dX0_parts_135 : decode cX0_parts 135 = .ok (.getfield 141, 3) := dk_180 0 141 (dk_at dksX0_parts_5 19 rfl rfl)
theorem dX0_parts_138 : decode cX0_parts 138 = .ok (.iload_n 3, 1) := dk_29 (dk_at dksX0_parts_5 22 rfl rfl)
theorem dX0_parts_139 : decode cX0_parts 139 = .ok (.dup2, 1) := dk_92 (dk_at dksX0_parts_5 23 rfl rfl)
theorem dX0_parts_140 : decode cX0_parts 140 = .ok (.iaload, 1) := dk_46 (dk_at dksX0_parts_6 0 rfl rfl)
theorem dX0_parts_141 : decode cX0_parts 141 = .ok (.aload_n 0, 1) := dk_42 (dk_at dksX0_parts_6 1 rfl rfl)
theorem dX0_parts_142 : decode cX0_parts 142 = .ok (.getfield 132, 3) := dk_180 0 132 (dk_at dksX0_parts_6 2 rfl rfl)
theorem dX0_parts_145 : decode cX0_parts 145 = .ok (.iload_n 1, 1) := dk_27 (dk_at dksX0_parts_6 5 rfl rfl)
theorem dX0_parts_146 : decode cX0_parts 146 = .ok (.iaload, 1) := dk_46 (dk_at dksX0_parts_6 6 rfl rfl)
theorem dX0_parts_147 : decode cX0_parts 147 = .ok (.isub, 1) := dk_100 (dk_at dksX0_parts_6 7 rfl rfl)
theorem dX0_parts_148 : decode cX0_parts 148 = .ok (.iastore, 1) := dk_79 (dk_at dksX0_parts_6 8 rfl rfl)
theorem dX0_parts_149 : decode cX0_parts 149 = .ok (.iinc 3 1, 3) := dk_132 3 1 (dk_at dksX0_parts_6 9 rfl rfl)
theorem dX0_parts_152 : decode cX0_parts 152 = .ok (.goto (-104), 3) := dk_167 255 152 (dk_at dksX0_parts_6 12 rfl rfl)
theorem dX0_parts_155 : decode cX0_parts 155 = .ok (.return_, 1) := dk_177 (dk_at dksX0_parts_6 15 rfl rfl)
abbrev cX0_partOf : ByteArray := prog_1_method_79_code
def yX0_partOf : MethodName := ⟨RX0, "partOf", "(I)I"⟩
def dkwX0_partOf_1 : List UInt8 := [153, 0, 16, 42, 42, 180, 0, 138, 27, 46, 182, 0, 215, 167, 0, 9, 42, 16, 9, 182, 0, 169, 172]
abbrev dktX0_partOf_1 : List UInt8 := dkwX0_partOf_1 ++ []
def dkwX0_partOf_0 : List UInt8 := [27, 155, 0, 11, 27, 42, 180, 1, 231, 161, 0, 9, 42, 5, 182, 0, 169, 172, 42, 182, 1, 240]
abbrev dktX0_partOf_0 : List UInt8 := dkwX0_partOf_0 ++ dktX0_partOf_1
theorem dksX0_partOf_0 : cX0_partOf.data.toList.drop 0 = dktX0_partOf_0 := by decide +kernel
theorem dksX0_partOf_1 : cX0_partOf.data.toList.drop 22 = dktX0_partOf_1 := dk_seg dksX0_partOf_0 22 rfl rfl
theorem dX0_partOf_0 : decode cX0_partOf 0 = .ok (.iload_n 1, 1) := dk_27 (dk_at dksX0_partOf_0 0 rfl rfl)
theorem dX0_partOf_1 : decode cX0_partOf 1 = .ok (.ifCond .lt 11, 3) := dk_155 0 11 (dk_at dksX0_partOf_0 1 rfl rfl)
theorem dX0_partOf_4 : decode cX0_partOf 4 = .ok (.iload_n 1, 1) := dk_27 (dk_at dksX0_partOf_0 4 rfl rfl)
theorem dX0_partOf_5 : decode cX0_partOf 5 = .ok (.aload_n 0, 1) := dk_42 (dk_at dksX0_partOf_0 5 rfl rfl)
theorem dX0_partOf_6 : decode cX0_partOf 6 = .ok (.getfield 487, 3) := dk_180 1 231 (dk_at dksX0_partOf_0 6 rfl rfl)
theorem dX0_partOf_9 : decode cX0_partOf 9 = .ok (.if_icmp .lt 9, 3) := dk_161 0 9 (dk_at dksX0_partOf_0 9 rfl rfl)
theorem dX0_partOf_12 : decode cX0_partOf 12 = .ok (.aload_n 0, 1) := dk_42 (dk_at dksX0_partOf_0 12 rfl rfl)
theorem dX0_partOf_13 : decode cX0_partOf 13 = .ok (.iconst 2, 1) := dk_5 (dk_at dksX0_partOf_0 13 rfl rfl)
theorem dX0_partOf_14 : decode cX0_partOf 14 = .ok (.invokevirtual 169, 3) := dk_182 0 169 (dk_at dksX0_partOf_0 14 rfl rfl)
theorem dX0_partOf_17 : decode cX0_partOf 17 = .ok (.ireturn, 1) := dk_172 (dk_at dksX0_partOf_0 17 rfl rfl)
theorem dX0_partOf_18 : decode cX0_partOf 18 = .ok (.aload_n 0, 1) := dk_42 (dk_at dksX0_partOf_0 18 rfl rfl)
theorem dX0_partOf_19 : decode cX0_partOf 19 = .ok (.invokevirtual 496, 3) := dk_182 1 240 (dk_at dksX0_partOf_0 19 rfl rfl)
theorem dX0_partOf_22 : decode cX0_partOf 22 = .ok (.ifCond .eq 16, 3) := dk_153 0 16 (dk_at dksX0_partOf_1 0 rfl rfl)
theorem dX0_partOf_25 : decode cX0_partOf 25 = .ok (.aload_n 0, 1) := dk_42 (dk_at dksX0_partOf_1 3 rfl rfl)
theorem dX0_partOf_26 : decode cX0_partOf 26 = .ok (.aload_n 0, 1) := dk_42 (dk_at dksX0_partOf_1 4 rfl rfl)
theorem dX0_partOf_27 : decode cX0_partOf 27 = .ok (.getfield 138, 3) := dk_180 0 138 (dk_at dksX0_partOf_1 5 rfl rfl)
theorem dX0_partOf_30 : decode cX0_partOf 30 = .ok (.iload_n 1, 1) := dk_27 (dk_at dksX0_partOf_1 8 rfl rfl)
theorem dX0_partOf_31 : decode cX0_partOf 31 = .ok (.iaload, 1) := dk_46 (dk_at dksX0_partOf_1 9 rfl rfl)
theorem dX0_partOf_32 : decode cX0_partOf 32 = .ok (.invokevirtual 215, 3) := dk_182 0 215 (dk_at dksX0_partOf_1 10 rfl rfl)
theorem dX0_partOf_35 : decode cX0_partOf 35 = .ok (.goto 9, 3) := dk_167 0 9 (dk_at dksX0_partOf_1 13 rfl rfl)
theorem dX0_partOf_38 : decode cX0_partOf 38 = .ok (.aload_n 0, 1) := dk_42 (dk_at dksX0_partOf_1 16 rfl rfl)
theorem dX0_partOf_39 : decode cX0_partOf 39 = .ok (.bipush 9, 2) := dk_16 9 (dk_at dksX0_partOf_1 17 rfl rfl)
theorem dX0_partOf_41 : decode cX0_partOf 41 = .ok (.invokevirtual 169, 3) := dk_182 0 169 (dk_at dksX0_partOf_1 19 rfl rfl)
theorem dX0_partOf_44 : decode cX0_partOf 44 = .ok (.ireturn, 1) := dk_172 (dk_at dksX0_partOf_1 22 rfl rfl)
theorem q95 : (Jvm.Cond.initialized "WheelTables") ∈ lw_all := lw_g (lw_at lw_m1 1 rfl) rfl
theorem q119 : (Jvm.Cond.instantiable "WheelTables" (57 : Nat)) ∈ lw_all := lw_g (lw_at lw_m1 25 rfl) rfl
theorem q121 : (Jvm.Cond.instanceMethod ({ cls := "WheelTables", name := "<init>", desc := "()V" } : Jvm.MethodName)) ∈ lw_all := lw_g (lw_at lw_m1 27 rfl) rfl
theorem q122 : (Jvm.Cond.code ({ cls := "WheelTables", name := "<init>", desc := "()V" } : Jvm.MethodName) prog_1_method_1_code (2 : Nat) (Option.none : Option Jvm.ClassFile.FieldType)) ∈ lw_all := lw_g (lw_at lw_m1 28 rfl) rfl
theorem q123 : (Jvm.Cond.methodLink "WheelTables" (1 : Nat) ({ cls := "java/lang/Object", name := "<init>", desc := "()V" } : Jvm.MethodName)) ∈ lw_all := lw_g (lw_at lw_m1 29 rfl) rfl
theorem q126 : (Jvm.Cond.classLink "WheelTables" (9 : Nat) "WheelTables$Tray") ∈ lw_all := lw_g (lw_at lw_m1 32 rfl) rfl
theorem q128 : (Jvm.Cond.classLink "WheelTables" (15 : Nat) "WheelTables$Engine") ∈ lw_all := lw_g (lw_at lw_m1 34 rfl) rfl
theorem q130 : (Jvm.Cond.classLink "WheelTables" (21 : Nat) "WheelTables$Wrong") ∈ lw_all := lw_g (lw_at lw_m1 36 rfl) rfl
theorem q185 : (Jvm.Cond.methodLink "WheelTables" (23 : Nat) ({ cls := "WheelTables$Wrong", name := "<init>", desc := "()V" } : Jvm.MethodName)) ∈ lw_all := lw_g (lw_at lw_m1 91 rfl) rfl
theorem q198 : (Jvm.Cond.fieldLinkNest "WheelTables" (331 : Nat) "WheelTables$Wrong" "kind" "I" "WheelTables") ∈ lw_tbl := lw_at lw_m1 104 rfl
theorem q200 : (Jvm.Cond.fieldLinkNest "WheelTables" (334 : Nat) "WheelTables$Wrong" "place" "I" "WheelTables") ∈ lw_tbl := lw_at lw_m1 106 rfl
theorem q218 : (Jvm.Cond.classLink "WheelTables" (28 : Nat) "WheelTables$Reader") ∈ lw_all := lw_g (lw_at lw_m1 124 rfl) rfl
theorem q220 : (Jvm.Cond.methodLink "WheelTables" (30 : Nat) ({ cls := "WheelTables$Reader", name := "<init>", desc := "(LWheelTables$Wrong;)V" } : Jvm.MethodName)) ∈ lw_all := lw_g (lw_at lw_m1 126 rfl) rfl
theorem q225 : (Jvm.Cond.fieldLinkNest "WheelTables" (323 : Nat) "WheelTables$Reader" "tape" "[B" "WheelTables") ∈ lw_tbl := lw_at lw_m1 131 rfl
theorem q226 : (Jvm.Cond.fieldLinkNest "WheelTables" (317 : Nat) "WheelTables$Reader" "taped" "I" "WheelTables") ∈ lw_tbl := lw_at lw_m1 132 rfl
theorem q251 : (Jvm.Cond.classLink "WheelTables" (37 : Nat) "WheelTables$Card") ∈ lw_all := lw_g (lw_at lw_m1 157 rfl) rfl
theorem q253 : (Jvm.Cond.classLink "WheelTables" (85 : Nat) "[[I") ∈ lw_all := lw_g (lw_at lw_m1 159 rfl) rfl
theorem q256 : (Jvm.Cond.methodLinkNest "WheelTables" (144 : Nat) ({ cls := "WheelTables$Tray", name := "<init>", desc := "()V" } : Jvm.MethodName) "WheelTables") ∈ lw_tbl := lw_at lw_m1 162 rfl
theorem q261 : (Jvm.Cond.fieldLinkNest "WheelTables" (179 : Nat) "WheelTables$Tray" "row" "Ljava/lang/Object;" "WheelTables") ∈ lw_tbl := lw_at lw_m1 167 rfl
theorem q263 : (Jvm.Cond.fieldLinkNest "WheelTables" (182 : Nat) "WheelTables$Tray" "sort" "I" "WheelTables") ∈ lw_tbl := lw_at lw_m1 169 rfl
theorem q271 : (Jvm.Cond.fieldLink "WheelTables" (11 : Nat) "WheelTables" "trays" "[LWheelTables$Tray;") ∈ lw_all := lw_g (lw_at lw_m1 177 rfl) rfl
theorem q272 : (Jvm.Cond.fieldLink "WheelTables" (17 : Nat) "WheelTables" "engines" "[LWheelTables$Engine;") ∈ lw_all := lw_g (lw_at lw_m1 178 rfl) rfl
theorem q273 : (Jvm.Cond.fieldLink "WheelTables" (24 : Nat) "WheelTables" "wrong" "LWheelTables$Wrong;") ∈ lw_all := lw_g (lw_at lw_m1 179 rfl) rfl
theorem q274 : (Jvm.Cond.fieldLink "WheelTables" (33 : Nat) "WheelTables" "reader" "LWheelTables$Reader;") ∈ lw_all := lw_g (lw_at lw_m1 180 rfl) rfl
theorem q275 : (Jvm.Cond.fieldLink "WheelTables" (39 : Nat) "WheelTables" "cards" "[LWheelTables$Card;") ∈ lw_all := lw_g (lw_at lw_m1 181 rfl) rfl
theorem q276 : (Jvm.Cond.fieldLink "WheelTables" (43 : Nat) "WheelTables" "other" "[LWheelTables$Card;") ∈ lw_all := lw_g (lw_at lw_m1 182 rfl) rfl
theorem q277 : (Jvm.Cond.fieldLink "WheelTables" (193 : Nat) "WheelTables" "engineMany" "I") ∈ lw_all := lw_g (lw_at lw_m1 183 rfl) rfl
theorem q278 : (Jvm.Cond.fieldLink "WheelTables" (46 : Nat) "WheelTables" "cardMany" "I") ∈ lw_all := lw_g (lw_at lw_m1 184 rfl) rfl
theorem q279 : (Jvm.Cond.fieldLink "WheelTables" (145 : Nat) "WheelTables" "status" "I") ∈ lw_all := lw_g (lw_at lw_m1 185 rfl) rfl
theorem q280 : (Jvm.Cond.fieldLink "WheelTables" (50 : Nat) "WheelTables" "faultKind" "I") ∈ lw_all := lw_g (lw_at lw_m1 186 rfl) rfl
theorem q281 : (Jvm.Cond.fieldLink "WheelTables" (53 : Nat) "WheelTables" "faultPlace" "I") ∈ lw_all := lw_g (lw_at lw_m1 187 rfl) rfl
theorem q282 : (Jvm.Cond.fieldLink "WheelTables" (56 : Nat) "WheelTables" "row" "[J") ∈ lw_all := lw_g (lw_at lw_m1 188 rfl) rfl
theorem q283 : (Jvm.Cond.fieldLink "WheelTables" (60 : Nat) "WheelTables" "why" "[I") ∈ lw_all := lw_g (lw_at lw_m1 189 rfl) rfl
theorem q284 : (Jvm.Cond.fieldLink "WheelTables" (284 : Nat) "WheelTables" "hasWhy" "Z") ∈ lw_all := lw_g (lw_at lw_m1 190 rfl) rfl
theorem q285 : (Jvm.Cond.fieldLink "WheelTables" (295 : Nat) "WheelTables" "lower" "J") ∈ lw_all := lw_g (lw_at lw_m1 191 rfl) rfl
theorem q286 : (Jvm.Cond.fieldLink "WheelTables" (64 : Nat) "WheelTables" "pivots" "[J") ∈ lw_all := lw_g (lw_at lw_m1 192 rfl) rfl
theorem q287 : (Jvm.Cond.fieldLink "WheelTables" (67 : Nat) "WheelTables" "exact" "[J") ∈ lw_all := lw_g (lw_at lw_m1 193 rfl) rfl
theorem q288 : (Jvm.Cond.fieldLink "WheelTables" (70 : Nat) "WheelTables" "axes" "[J") ∈ lw_all := lw_g (lw_at lw_m1 194 rfl) rfl
theorem q289 : (Jvm.Cond.fieldLink "WheelTables" (73 : Nat) "WheelTables" "store" "[J") ∈ lw_all := lw_g (lw_at lw_m1 195 rfl) rfl
theorem q290 : (Jvm.Cond.fieldLink "WheelTables" (76 : Nat) "WheelTables" "prints" "[J") ∈ lw_all := lw_g (lw_at lw_m1 196 rfl) rfl
theorem q291 : (Jvm.Cond.fieldLink "WheelTables" (337 : Nat) "WheelTables" "printMany" "I") ∈ lw_all := lw_g (lw_at lw_m1 197 rfl) rfl
theorem q292 : (Jvm.Cond.fieldLink "WheelTables" (340 : Nat) "WheelTables" "cranks" "I") ∈ lw_all := lw_g (lw_at lw_m1 198 rfl) rfl
theorem q293 : (Jvm.Cond.fieldLink "WheelTables" (343 : Nat) "WheelTables" "alarm" "I") ∈ lw_all := lw_g (lw_at lw_m1 199 rfl) rfl
theorem q294 : (Jvm.Cond.fieldLink "WheelTables" (346 : Nat) "WheelTables" "alarmAt" "I") ∈ lw_all := lw_g (lw_at lw_m1 200 rfl) rfl
theorem q295 : (Jvm.Cond.fieldLink "WheelTables" (349 : Nat) "WheelTables" "done" "I") ∈ lw_all := lw_g (lw_at lw_m1 201 rfl) rfl
theorem q296 : (Jvm.Cond.fieldLink "WheelTables" (355 : Nat) "WheelTables" "hasRun" "Z") ∈ lw_all := lw_g (lw_at lw_m1 202 rfl) rfl
theorem q297 : (Jvm.Cond.fieldLink "WheelTables" (352 : Nat) "WheelTables" "isUp" "Z") ∈ lw_all := lw_g (lw_at lw_m1 203 rfl) rfl
theorem q298 : (Jvm.Cond.fieldLink "WheelTables" (79 : Nat) "WheelTables" "figures" "[I") ∈ lw_all := lw_g (lw_at lw_m1 204 rfl) rfl
theorem q299 : (Jvm.Cond.fieldLink "WheelTables" (82 : Nat) "WheelTables" "signed" "[I") ∈ lw_all := lw_g (lw_at lw_m1 205 rfl) rfl
theorem q300 : (Jvm.Cond.fieldLink "WheelTables" (87 : Nat) "WheelTables" "cost" "[[I") ∈ lw_all := lw_g (lw_at lw_m1 206 rfl) rfl
theorem q301 : (Jvm.Cond.fieldLink "WheelTables" (90 : Nat) "WheelTables" "table" "[J") ∈ lw_all := lw_g (lw_at lw_m1 207 rfl) rfl
theorem q302 : (Jvm.Cond.fieldLink "WheelTables" (93 : Nat) "WheelTables" "rights" "[[I") ∈ lw_all := lw_g (lw_at lw_m1 208 rfl) rfl
theorem q303 : (Jvm.Cond.fieldLink "WheelTables" (96 : Nat) "WheelTables" "rightMany" "[I") ∈ lw_all := lw_g (lw_at lw_m1 209 rfl) rfl
theorem q304 : (Jvm.Cond.fieldLink "WheelTables" (99 : Nat) "WheelTables" "rightAt" "[I") ∈ lw_all := lw_g (lw_at lw_m1 210 rfl) rfl
theorem q305 : (Jvm.Cond.fieldLink "WheelTables" (102 : Nat) "WheelTables" "rightTo" "[I") ∈ lw_all := lw_g (lw_at lw_m1 211 rfl) rfl
theorem q306 : (Jvm.Cond.fieldLink "WheelTables" (415 : Nat) "WheelTables" "tableMany" "I") ∈ lw_all := lw_g (lw_at lw_m1 212 rfl) rfl
theorem q307 : (Jvm.Cond.fieldLink "WheelTables" (406 : Nat) "WheelTables" "order" "I") ∈ lw_all := lw_g (lw_at lw_m1 213 rfl) rfl
theorem q308 : (Jvm.Cond.fieldLink "WheelTables" (409 : Nat) "WheelTables" "bound" "I") ∈ lw_all := lw_g (lw_at lw_m1 214 rfl) rfl
theorem q309 : (Jvm.Cond.fieldLink "WheelTables" (105 : Nat) "WheelTables" "castRow" "[I") ∈ lw_all := lw_g (lw_at lw_m1 215 rfl) rfl
theorem q310 : (Jvm.Cond.fieldLink "WheelTables" (108 : Nat) "WheelTables" "castNumber" "[I") ∈ lw_all := lw_g (lw_at lw_m1 216 rfl) rfl
theorem q311 : (Jvm.Cond.fieldLink "WheelTables" (111 : Nat) "WheelTables" "printCasts" "[I") ∈ lw_all := lw_g (lw_at lw_m1 217 rfl) rfl
theorem q312 : (Jvm.Cond.fieldLink "WheelTables" (114 : Nat) "WheelTables" "printLast" "[I") ∈ lw_all := lw_g (lw_at lw_m1 218 rfl) rfl
theorem q313 : (Jvm.Cond.fieldLink "WheelTables" (117 : Nat) "WheelTables" "toldDay" "[I") ∈ lw_all := lw_g (lw_at lw_m1 219 rfl) rfl
theorem q314 : (Jvm.Cond.fieldLink "WheelTables" (120 : Nat) "WheelTables" "toldRow" "[I") ∈ lw_all := lw_g (lw_at lw_m1 220 rfl) rfl
theorem q315 : (Jvm.Cond.fieldLink "WheelTables" (123 : Nat) "WheelTables" "toldNumber" "[I") ∈ lw_all := lw_g (lw_at lw_m1 221 rfl) rfl
theorem q316 : (Jvm.Cond.fieldLink "WheelTables" (460 : Nat) "WheelTables" "casts" "I") ∈ lw_all := lw_g (lw_at lw_m1 222 rfl) rfl
theorem q317 : (Jvm.Cond.fieldLink "WheelTables" (466 : Nat) "WheelTables" "printings" "I") ∈ lw_all := lw_g (lw_at lw_m1 223 rfl) rfl
theorem q318 : (Jvm.Cond.fieldLink "WheelTables" (472 : Nat) "WheelTables" "tolds" "I") ∈ lw_all := lw_g (lw_at lw_m1 224 rfl) rfl
theorem q319 : (Jvm.Cond.fieldLink "WheelTables" (463 : Nat) "WheelTables" "today" "I") ∈ lw_all := lw_g (lw_at lw_m1 225 rfl) rfl
theorem q320 : (Jvm.Cond.fieldLink "WheelTables" (126 : Nat) "WheelTables" "jobAxes" "[I") ∈ lw_all := lw_g (lw_at lw_m1 226 rfl) rfl
theorem q321 : (Jvm.Cond.fieldLink "WheelTables" (129 : Nat) "WheelTables" "jobWheels" "[I") ∈ lw_all := lw_g (lw_at lw_m1 227 rfl) rfl
theorem q322 : (Jvm.Cond.fieldLink "WheelTables" (132 : Nat) "WheelTables" "jobTurns" "[I") ∈ lw_all := lw_g (lw_at lw_m1 228 rfl) rfl
theorem q323 : (Jvm.Cond.fieldLink "WheelTables" (135 : Nat) "WheelTables" "tried" "[I") ∈ lw_all := lw_g (lw_at lw_m1 229 rfl) rfl
theorem q324 : (Jvm.Cond.fieldLink "WheelTables" (138 : Nat) "WheelTables" "parted" "[I") ∈ lw_all := lw_g (lw_at lw_m1 230 rfl) rfl
theorem q325 : (Jvm.Cond.fieldLink "WheelTables" (141 : Nat) "WheelTables" "sums" "[I") ∈ lw_all := lw_g (lw_at lw_m1 231 rfl) rfl
theorem q326 : (Jvm.Cond.fieldLink "WheelTables" (487 : Nat) "WheelTables" "jobs" "I") ∈ lw_all := lw_g (lw_at lw_m1 232 rfl) rfl
theorem q327 : (Jvm.Cond.fieldLink "WheelTables" (490 : Nat) "WheelTables" "leastSum" "I") ∈ lw_all := lw_g (lw_at lw_m1 233 rfl) rfl
theorem q328 : (Jvm.Cond.laysFinal "WheelTables" "WheelTables" "trays" "[LWheelTables$Tray;") ∈ lw_all := lw_g (lw_at lw_m1 234 rfl) rfl
theorem q329 : (Jvm.Cond.soleField "WheelTables" "trays") ∈ lw_all := lw_g (lw_at lw_m1 235 rfl) rfl
theorem q330 : (Jvm.Cond.laysFinal "WheelTables" "WheelTables" "engines" "[LWheelTables$Engine;") ∈ lw_all := lw_g (lw_at lw_m1 236 rfl) rfl
theorem q331 : (Jvm.Cond.soleField "WheelTables" "engines") ∈ lw_all := lw_g (lw_at lw_m1 237 rfl) rfl
theorem q332 : (Jvm.Cond.laysFinal "WheelTables" "WheelTables" "wrong" "LWheelTables$Wrong;") ∈ lw_all := lw_g (lw_at lw_m1 238 rfl) rfl
theorem q333 : (Jvm.Cond.soleField "WheelTables" "wrong") ∈ lw_all := lw_g (lw_at lw_m1 239 rfl) rfl
theorem q334 : (Jvm.Cond.laysFinal "WheelTables" "WheelTables" "reader" "LWheelTables$Reader;") ∈ lw_all := lw_g (lw_at lw_m2 0 rfl) rfl
theorem q335 : (Jvm.Cond.soleField "WheelTables" "reader") ∈ lw_all := lw_g (lw_at lw_m2 1 rfl) rfl
theorem q336 : (Jvm.Cond.lays "WheelTables" "WheelTables" "cards" "[LWheelTables$Card;") ∈ lw_all := lw_g (lw_at lw_m2 2 rfl) rfl
theorem q337 : (Jvm.Cond.soleField "WheelTables" "cards") ∈ lw_all := lw_g (lw_at lw_m2 3 rfl) rfl
theorem q338 : (Jvm.Cond.lays "WheelTables" "WheelTables" "other" "[LWheelTables$Card;") ∈ lw_all := lw_g (lw_at lw_m2 4 rfl) rfl
theorem q339 : (Jvm.Cond.soleField "WheelTables" "other") ∈ lw_all := lw_g (lw_at lw_m2 5 rfl) rfl
theorem q340 : (Jvm.Cond.lays "WheelTables" "WheelTables" "engineMany" "I") ∈ lw_all := lw_g (lw_at lw_m2 6 rfl) rfl
theorem q341 : (Jvm.Cond.soleField "WheelTables" "engineMany") ∈ lw_all := lw_g (lw_at lw_m2 7 rfl) rfl
theorem q342 : (Jvm.Cond.lays "WheelTables" "WheelTables" "cardMany" "I") ∈ lw_all := lw_g (lw_at lw_m2 8 rfl) rfl
theorem q343 : (Jvm.Cond.soleField "WheelTables" "cardMany") ∈ lw_all := lw_g (lw_at lw_m2 9 rfl) rfl
theorem q344 : (Jvm.Cond.lays "WheelTables" "WheelTables" "status" "I") ∈ lw_all := lw_g (lw_at lw_m2 10 rfl) rfl
theorem q345 : (Jvm.Cond.soleField "WheelTables" "status") ∈ lw_all := lw_g (lw_at lw_m2 11 rfl) rfl
theorem q346 : (Jvm.Cond.lays "WheelTables" "WheelTables" "faultKind" "I") ∈ lw_all := lw_g (lw_at lw_m2 12 rfl) rfl
theorem q347 : (Jvm.Cond.soleField "WheelTables" "faultKind") ∈ lw_all := lw_g (lw_at lw_m2 13 rfl) rfl
theorem q348 : (Jvm.Cond.lays "WheelTables" "WheelTables" "faultPlace" "I") ∈ lw_all := lw_g (lw_at lw_m2 14 rfl) rfl
theorem q349 : (Jvm.Cond.soleField "WheelTables" "faultPlace") ∈ lw_all := lw_g (lw_at lw_m2 15 rfl) rfl
theorem q350 : (Jvm.Cond.laysFinal "WheelTables" "WheelTables" "row" "[J") ∈ lw_all := lw_g (lw_at lw_m2 16 rfl) rfl
theorem q351 : (Jvm.Cond.soleField "WheelTables" "row") ∈ lw_all := lw_g (lw_at lw_m2 17 rfl) rfl
theorem q352 : (Jvm.Cond.laysFinal "WheelTables" "WheelTables" "why" "[I") ∈ lw_all := lw_g (lw_at lw_m2 18 rfl) rfl
theorem q353 : (Jvm.Cond.soleField "WheelTables" "why") ∈ lw_all := lw_g (lw_at lw_m2 19 rfl) rfl
theorem q354 : (Jvm.Cond.lays "WheelTables" "WheelTables" "hasWhy" "Z") ∈ lw_all := lw_g (lw_at lw_m2 20 rfl) rfl
theorem q355 : (Jvm.Cond.soleField "WheelTables" "hasWhy") ∈ lw_all := lw_g (lw_at lw_m2 21 rfl) rfl
theorem q356 : (Jvm.Cond.lays "WheelTables" "WheelTables" "lower" "J") ∈ lw_all := lw_g (lw_at lw_m2 22 rfl) rfl
theorem q357 : (Jvm.Cond.soleField "WheelTables" "lower") ∈ lw_all := lw_g (lw_at lw_m2 23 rfl) rfl
theorem q358 : (Jvm.Cond.laysFinal "WheelTables" "WheelTables" "pivots" "[J") ∈ lw_all := lw_g (lw_at lw_m2 24 rfl) rfl
theorem q359 : (Jvm.Cond.soleField "WheelTables" "pivots") ∈ lw_all := lw_g (lw_at lw_m2 25 rfl) rfl
theorem q360 : (Jvm.Cond.laysFinal "WheelTables" "WheelTables" "exact" "[J") ∈ lw_all := lw_g (lw_at lw_m2 26 rfl) rfl
theorem q361 : (Jvm.Cond.soleField "WheelTables" "exact") ∈ lw_all := lw_g (lw_at lw_m2 27 rfl) rfl
theorem q362 : (Jvm.Cond.laysFinal "WheelTables" "WheelTables" "axes" "[J") ∈ lw_all := lw_g (lw_at lw_m2 28 rfl) rfl
theorem q363 : (Jvm.Cond.soleField "WheelTables" "axes") ∈ lw_all := lw_g (lw_at lw_m2 29 rfl) rfl
theorem q364 : (Jvm.Cond.laysFinal "WheelTables" "WheelTables" "store" "[J") ∈ lw_all := lw_g (lw_at lw_m2 30 rfl) rfl
theorem q365 : (Jvm.Cond.soleField "WheelTables" "store") ∈ lw_all := lw_g (lw_at lw_m2 31 rfl) rfl
theorem q366 : (Jvm.Cond.laysFinal "WheelTables" "WheelTables" "prints" "[J") ∈ lw_all := lw_g (lw_at lw_m2 32 rfl) rfl
theorem q367 : (Jvm.Cond.soleField "WheelTables" "prints") ∈ lw_all := lw_g (lw_at lw_m2 33 rfl) rfl
theorem q368 : (Jvm.Cond.lays "WheelTables" "WheelTables" "printMany" "I") ∈ lw_all := lw_g (lw_at lw_m2 34 rfl) rfl
theorem q369 : (Jvm.Cond.soleField "WheelTables" "printMany") ∈ lw_all := lw_g (lw_at lw_m2 35 rfl) rfl
theorem q370 : (Jvm.Cond.lays "WheelTables" "WheelTables" "cranks" "I") ∈ lw_all := lw_g (lw_at lw_m2 36 rfl) rfl
theorem q371 : (Jvm.Cond.soleField "WheelTables" "cranks") ∈ lw_all := lw_g (lw_at lw_m2 37 rfl) rfl
theorem q372 : (Jvm.Cond.lays "WheelTables" "WheelTables" "alarm" "I") ∈ lw_all := lw_g (lw_at lw_m2 38 rfl) rfl
theorem q373 : (Jvm.Cond.soleField "WheelTables" "alarm") ∈ lw_all := lw_g (lw_at lw_m2 39 rfl) rfl
theorem q374 : (Jvm.Cond.lays "WheelTables" "WheelTables" "alarmAt" "I") ∈ lw_all := lw_g (lw_at lw_m2 40 rfl) rfl
theorem q375 : (Jvm.Cond.soleField "WheelTables" "alarmAt") ∈ lw_all := lw_g (lw_at lw_m2 41 rfl) rfl
theorem q376 : (Jvm.Cond.lays "WheelTables" "WheelTables" "done" "I") ∈ lw_all := lw_g (lw_at lw_m2 42 rfl) rfl
theorem q377 : (Jvm.Cond.soleField "WheelTables" "done") ∈ lw_all := lw_g (lw_at lw_m2 43 rfl) rfl
theorem q378 : (Jvm.Cond.lays "WheelTables" "WheelTables" "hasRun" "Z") ∈ lw_all := lw_g (lw_at lw_m2 44 rfl) rfl
theorem q379 : (Jvm.Cond.soleField "WheelTables" "hasRun") ∈ lw_all := lw_g (lw_at lw_m2 45 rfl) rfl
theorem q380 : (Jvm.Cond.lays "WheelTables" "WheelTables" "isUp" "Z") ∈ lw_all := lw_g (lw_at lw_m2 46 rfl) rfl
theorem q381 : (Jvm.Cond.soleField "WheelTables" "isUp") ∈ lw_all := lw_g (lw_at lw_m2 47 rfl) rfl
theorem q382 : (Jvm.Cond.laysFinal "WheelTables" "WheelTables" "figures" "[I") ∈ lw_all := lw_g (lw_at lw_m2 48 rfl) rfl
theorem q383 : (Jvm.Cond.soleField "WheelTables" "figures") ∈ lw_all := lw_g (lw_at lw_m2 49 rfl) rfl
theorem q384 : (Jvm.Cond.laysFinal "WheelTables" "WheelTables" "signed" "[I") ∈ lw_all := lw_g (lw_at lw_m2 50 rfl) rfl
theorem q385 : (Jvm.Cond.soleField "WheelTables" "signed") ∈ lw_all := lw_g (lw_at lw_m2 51 rfl) rfl
theorem q386 : (Jvm.Cond.laysFinal "WheelTables" "WheelTables" "cost" "[[I") ∈ lw_all := lw_g (lw_at lw_m2 52 rfl) rfl
theorem q387 : (Jvm.Cond.soleField "WheelTables" "cost") ∈ lw_all := lw_g (lw_at lw_m2 53 rfl) rfl
theorem q388 : (Jvm.Cond.laysFinal "WheelTables" "WheelTables" "table" "[J") ∈ lw_all := lw_g (lw_at lw_m2 54 rfl) rfl
theorem q389 : (Jvm.Cond.soleField "WheelTables" "table") ∈ lw_all := lw_g (lw_at lw_m2 55 rfl) rfl
theorem q390 : (Jvm.Cond.laysFinal "WheelTables" "WheelTables" "rights" "[[I") ∈ lw_all := lw_g (lw_at lw_m2 56 rfl) rfl
theorem q391 : (Jvm.Cond.soleField "WheelTables" "rights") ∈ lw_all := lw_g (lw_at lw_m2 57 rfl) rfl
theorem q392 : (Jvm.Cond.laysFinal "WheelTables" "WheelTables" "rightMany" "[I") ∈ lw_all := lw_g (lw_at lw_m2 58 rfl) rfl
theorem q393 : (Jvm.Cond.soleField "WheelTables" "rightMany") ∈ lw_all := lw_g (lw_at lw_m2 59 rfl) rfl
theorem q394 : (Jvm.Cond.laysFinal "WheelTables" "WheelTables" "rightAt" "[I") ∈ lw_all := lw_g (lw_at lw_m2 60 rfl) rfl
theorem q395 : (Jvm.Cond.soleField "WheelTables" "rightAt") ∈ lw_all := lw_g (lw_at lw_m2 61 rfl) rfl
theorem q396 : (Jvm.Cond.laysFinal "WheelTables" "WheelTables" "rightTo" "[I") ∈ lw_all := lw_g (lw_at lw_m2 62 rfl) rfl
theorem q397 : (Jvm.Cond.soleField "WheelTables" "rightTo") ∈ lw_all := lw_g (lw_at lw_m2 63 rfl) rfl
theorem q398 : (Jvm.Cond.lays "WheelTables" "WheelTables" "tableMany" "I") ∈ lw_all := lw_g (lw_at lw_m2 64 rfl) rfl
theorem q399 : (Jvm.Cond.soleField "WheelTables" "tableMany") ∈ lw_all := lw_g (lw_at lw_m2 65 rfl) rfl
theorem q400 : (Jvm.Cond.lays "WheelTables" "WheelTables" "order" "I") ∈ lw_all := lw_g (lw_at lw_m2 66 rfl) rfl
theorem q401 : (Jvm.Cond.soleField "WheelTables" "order") ∈ lw_all := lw_g (lw_at lw_m2 67 rfl) rfl
theorem q402 : (Jvm.Cond.lays "WheelTables" "WheelTables" "bound" "I") ∈ lw_all := lw_g (lw_at lw_m2 68 rfl) rfl
theorem q403 : (Jvm.Cond.soleField "WheelTables" "bound") ∈ lw_all := lw_g (lw_at lw_m2 69 rfl) rfl
theorem q404 : (Jvm.Cond.laysFinal "WheelTables" "WheelTables" "castRow" "[I") ∈ lw_all := lw_g (lw_at lw_m2 70 rfl) rfl
theorem q405 : (Jvm.Cond.soleField "WheelTables" "castRow") ∈ lw_all := lw_g (lw_at lw_m2 71 rfl) rfl
theorem q406 : (Jvm.Cond.laysFinal "WheelTables" "WheelTables" "castNumber" "[I") ∈ lw_all := lw_g (lw_at lw_m2 72 rfl) rfl
theorem q407 : (Jvm.Cond.soleField "WheelTables" "castNumber") ∈ lw_all := lw_g (lw_at lw_m2 73 rfl) rfl
theorem q408 : (Jvm.Cond.laysFinal "WheelTables" "WheelTables" "printCasts" "[I") ∈ lw_all := lw_g (lw_at lw_m2 74 rfl) rfl
theorem q409 : (Jvm.Cond.soleField "WheelTables" "printCasts") ∈ lw_all := lw_g (lw_at lw_m2 75 rfl) rfl
theorem q410 : (Jvm.Cond.laysFinal "WheelTables" "WheelTables" "printLast" "[I") ∈ lw_all := lw_g (lw_at lw_m2 76 rfl) rfl
theorem q411 : (Jvm.Cond.soleField "WheelTables" "printLast") ∈ lw_all := lw_g (lw_at lw_m2 77 rfl) rfl
theorem q412 : (Jvm.Cond.laysFinal "WheelTables" "WheelTables" "toldDay" "[I") ∈ lw_all := lw_g (lw_at lw_m2 78 rfl) rfl
theorem q413 : (Jvm.Cond.soleField "WheelTables" "toldDay") ∈ lw_all := lw_g (lw_at lw_m2 79 rfl) rfl
theorem q414 : (Jvm.Cond.laysFinal "WheelTables" "WheelTables" "toldRow" "[I") ∈ lw_all := lw_g (lw_at lw_m2 80 rfl) rfl
theorem q415 : (Jvm.Cond.soleField "WheelTables" "toldRow") ∈ lw_all := lw_g (lw_at lw_m2 81 rfl) rfl
theorem q416 : (Jvm.Cond.laysFinal "WheelTables" "WheelTables" "toldNumber" "[I") ∈ lw_all := lw_g (lw_at lw_m2 82 rfl) rfl
theorem q417 : (Jvm.Cond.soleField "WheelTables" "toldNumber") ∈ lw_all := lw_g (lw_at lw_m2 83 rfl) rfl
theorem q418 : (Jvm.Cond.lays "WheelTables" "WheelTables" "casts" "I") ∈ lw_all := lw_g (lw_at lw_m2 84 rfl) rfl
theorem q419 : (Jvm.Cond.soleField "WheelTables" "casts") ∈ lw_all := lw_g (lw_at lw_m2 85 rfl) rfl
theorem q420 : (Jvm.Cond.lays "WheelTables" "WheelTables" "printings" "I") ∈ lw_all := lw_g (lw_at lw_m2 86 rfl) rfl
theorem q421 : (Jvm.Cond.soleField "WheelTables" "printings") ∈ lw_all := lw_g (lw_at lw_m2 87 rfl) rfl
theorem q422 : (Jvm.Cond.lays "WheelTables" "WheelTables" "tolds" "I") ∈ lw_all := lw_g (lw_at lw_m2 88 rfl) rfl
theorem q423 : (Jvm.Cond.soleField "WheelTables" "tolds") ∈ lw_all := lw_g (lw_at lw_m2 89 rfl) rfl
theorem q424 : (Jvm.Cond.lays "WheelTables" "WheelTables" "today" "I") ∈ lw_all := lw_g (lw_at lw_m2 90 rfl) rfl
theorem q425 : (Jvm.Cond.soleField "WheelTables" "today") ∈ lw_all := lw_g (lw_at lw_m2 91 rfl) rfl
theorem q426 : (Jvm.Cond.laysFinal "WheelTables" "WheelTables" "jobAxes" "[I") ∈ lw_all := lw_g (lw_at lw_m2 92 rfl) rfl
theorem q427 : (Jvm.Cond.soleField "WheelTables" "jobAxes") ∈ lw_all := lw_g (lw_at lw_m2 93 rfl) rfl
theorem q428 : (Jvm.Cond.laysFinal "WheelTables" "WheelTables" "jobWheels" "[I") ∈ lw_all := lw_g (lw_at lw_m2 94 rfl) rfl
theorem q429 : (Jvm.Cond.soleField "WheelTables" "jobWheels") ∈ lw_all := lw_g (lw_at lw_m2 95 rfl) rfl
theorem q430 : (Jvm.Cond.laysFinal "WheelTables" "WheelTables" "jobTurns" "[I") ∈ lw_all := lw_g (lw_at lw_m2 96 rfl) rfl
theorem q431 : (Jvm.Cond.soleField "WheelTables" "jobTurns") ∈ lw_all := lw_g (lw_at lw_m2 97 rfl) rfl
theorem q432 : (Jvm.Cond.laysFinal "WheelTables" "WheelTables" "tried" "[I") ∈ lw_all := lw_g (lw_at lw_m2 98 rfl) rfl
theorem q433 : (Jvm.Cond.soleField "WheelTables" "tried") ∈ lw_all := lw_g (lw_at lw_m2 99 rfl) rfl
theorem q434 : (Jvm.Cond.laysFinal "WheelTables" "WheelTables" "parted" "[I") ∈ lw_all := lw_g (lw_at lw_m2 100 rfl) rfl
theorem q435 : (Jvm.Cond.soleField "WheelTables" "parted") ∈ lw_all := lw_g (lw_at lw_m2 101 rfl) rfl
theorem q436 : (Jvm.Cond.laysFinal "WheelTables" "WheelTables" "sums" "[I") ∈ lw_all := lw_g (lw_at lw_m2 102 rfl) rfl
theorem q437 : (Jvm.Cond.soleField "WheelTables" "sums") ∈ lw_all := lw_g (lw_at lw_m2 103 rfl) rfl
theorem q438 : (Jvm.Cond.lays "WheelTables" "WheelTables" "jobs" "I") ∈ lw_all := lw_g (lw_at lw_m2 104 rfl) rfl
theorem q439 : (Jvm.Cond.soleField "WheelTables" "jobs") ∈ lw_all := lw_g (lw_at lw_m2 105 rfl) rfl
theorem q440 : (Jvm.Cond.lays "WheelTables" "WheelTables" "leastSum" "I") ∈ lw_all := lw_g (lw_at lw_m2 106 rfl) rfl
theorem q441 : (Jvm.Cond.soleField "WheelTables" "leastSum") ∈ lw_all := lw_g (lw_at lw_m2 107 rfl) rfl
theorem q442 : (Jvm.Cond.superclass "WheelTables" "java/lang/Object") ∈ lw_all := lw_g (lw_at lw_m2 108 rfl) rfl
theorem q444 : (Jvm.Cond.instanceMethod ({ cls := "WheelTables", name := "status", desc := "()I" } : Jvm.MethodName)) ∈ lw_all := lw_g (lw_at lw_m2 110 rfl) rfl
theorem q445 : (Jvm.Cond.selects "WheelTables" ({ cls := "WheelTables", name := "status", desc := "()I" } : Jvm.MethodName) ({ cls := "WheelTables", name := "status", desc := "()I" } : Jvm.MethodName)) ∈ lw_all := lw_g (lw_at lw_m2 111 rfl) rfl
theorem q446 : (Jvm.Cond.code ({ cls := "WheelTables", name := "status", desc := "()I" } : Jvm.MethodName) prog_1_method_2_code (1 : Nat) (Option.some Jvm.ClassFile.FieldType.int)) ∈ lw_all := lw_g (lw_at lw_m2 112 rfl) rfl
theorem q448 : (Jvm.Cond.instanceMethod ({ cls := "WheelTables", name := "tray", desc := "(III)Z" } : Jvm.MethodName)) ∈ lw_all := lw_g (lw_at lw_m2 114 rfl) rfl
theorem q449 : (Jvm.Cond.selects "WheelTables" ({ cls := "WheelTables", name := "tray", desc := "(III)Z" } : Jvm.MethodName) ({ cls := "WheelTables", name := "tray", desc := "(III)Z" } : Jvm.MethodName)) ∈ lw_all := lw_g (lw_at lw_m2 115 rfl) rfl
theorem q450 : (Jvm.Cond.codeWith ({ cls := "WheelTables", name := "tray", desc := "(III)Z" } : Jvm.MethodName) prog_1_method_7_code (5 : Nat) (Option.some Jvm.ClassFile.FieldType.boolean) [((34 : Nat), (45 : Nat), (48 : Nat), (159 : Nat))]) ∈ lw_all := lw_g (lw_at lw_m2 116 rfl) rfl
theorem q451 : (Jvm.Cond.classLink "WheelTables" (159 : Nat) "java/lang/NegativeArraySizeException") ∈ lw_all := lw_g (lw_at lw_m2 117 rfl) rfl
theorem q478 : (Jvm.Cond.methodLink "WheelTables" (148 : Nat) ({ cls := "WheelTables", name := "isTray", desc := "(I)Z" } : Jvm.MethodName)) ∈ lw_all := lw_g (lw_at lw_m2 144 rfl) rfl
theorem q479 : (Jvm.Cond.static ({ cls := "WheelTables", name := "isTray", desc := "(I)Z" } : Jvm.MethodName)) ∈ lw_all := lw_g (lw_at lw_m2 145 rfl) rfl
theorem q480 : (Jvm.Cond.code ({ cls := "WheelTables", name := "isTray", desc := "(I)Z" } : Jvm.MethodName) prog_1_method_6_code (1 : Nat) (Option.some Jvm.ClassFile.FieldType.boolean)) ∈ lw_all := lw_g (lw_at lw_m2 146 rfl) rfl
theorem q481 : (Jvm.Cond.methodLink "WheelTables" (152 : Nat) ({ cls := "WheelTables", name := "is", desc := "(I)Z" } : Jvm.MethodName)) ∈ lw_all := lw_g (lw_at lw_m2 147 rfl) rfl
theorem q482 : (Jvm.Cond.privateMethod ({ cls := "WheelTables", name := "is", desc := "(I)Z" } : Jvm.MethodName)) ∈ lw_tbl := lw_at lw_m2 148 rfl
theorem q483 : (Jvm.Cond.instanceMethod ({ cls := "WheelTables", name := "is", desc := "(I)Z" } : Jvm.MethodName)) ∈ lw_all := lw_g (lw_at lw_m2 149 rfl) rfl
theorem q484 : (Jvm.Cond.code ({ cls := "WheelTables", name := "is", desc := "(I)Z" } : Jvm.MethodName) prog_1_method_3_code (2 : Nat) (Option.some Jvm.ClassFile.FieldType.boolean)) ∈ lw_all := lw_g (lw_at lw_m2 150 rfl) rfl
theorem q485 : (Jvm.Cond.methodLink "WheelTables" (155 : Nat) ({ cls := "WheelTables$Tray", name := "make", desc := "(II)V" } : Jvm.MethodName)) ∈ lw_all := lw_g (lw_at lw_m2 151 rfl) rfl
theorem q491 : (Jvm.Cond.instanceMethod ({ cls := "WheelTables", name := "write", desc := "(IIJ)Z" } : Jvm.MethodName)) ∈ lw_all := lw_g (lw_at lw_m2 157 rfl) rfl
theorem q492 : (Jvm.Cond.selects "WheelTables" ({ cls := "WheelTables", name := "write", desc := "(IIJ)Z" } : Jvm.MethodName) ({ cls := "WheelTables", name := "write", desc := "(IIJ)Z" } : Jvm.MethodName)) ∈ lw_all := lw_g (lw_at lw_m2 158 rfl) rfl
theorem q493 : (Jvm.Cond.codeWith ({ cls := "WheelTables", name := "write", desc := "(IIJ)Z" } : Jvm.MethodName) prog_1_method_8_code (6 : Nat) (Option.some Jvm.ClassFile.FieldType.boolean) [((13 : Nat), (24 : Nat), (27 : Nat), (165 : Nat)), ((13 : Nat), (24 : Nat), (35 : Nat), (167 : Nat))]) ∈ lw_all := lw_g (lw_at lw_m2 159 rfl) rfl
theorem q494 : (Jvm.Cond.classLink "WheelTables" (165 : Nat) "java/lang/NullPointerException") ∈ lw_all := lw_g (lw_at lw_m2 160 rfl) rfl
theorem q519 : (Jvm.Cond.classLink "WheelTables" (167 : Nat) "java/lang/ArrayIndexOutOfBoundsException") ∈ lw_all := lw_g (lw_at lw_m2 185 rfl) rfl
theorem q538 : (Jvm.Cond.methodLink "WheelTables" (161 : Nat) ({ cls := "WheelTables$Tray", name := "set", desc := "(IJ)V" } : Jvm.MethodName)) ∈ lw_all := lw_g (lw_at lw_m2 204 rfl) rfl
theorem q547 : (Jvm.Cond.instanceMethod ({ cls := "WheelTables", name := "read", desc := "(II)J" } : Jvm.MethodName)) ∈ lw_all := lw_g (lw_at lw_m2 213 rfl) rfl
theorem q548 : (Jvm.Cond.selects "WheelTables" ({ cls := "WheelTables", name := "read", desc := "(II)J" } : Jvm.MethodName) ({ cls := "WheelTables", name := "read", desc := "(II)J" } : Jvm.MethodName)) ∈ lw_all := lw_g (lw_at lw_m2 214 rfl) rfl
theorem q549 : (Jvm.Cond.codeWith ({ cls := "WheelTables", name := "read", desc := "(II)J" } : Jvm.MethodName) prog_1_method_9_code (4 : Nat) (Option.some Jvm.ClassFile.FieldType.long) [((19 : Nat), (29 : Nat), (30 : Nat), (165 : Nat)), ((19 : Nat), (29 : Nat), (39 : Nat), (167 : Nat))]) ∈ lw_all := lw_g (lw_at lw_m2 215 rfl) rfl
theorem q550 : (Jvm.Cond.methodLink "WheelTables" (169 : Nat) ({ cls := "WheelTables", name := "none", desc := "(I)I" } : Jvm.MethodName)) ∈ lw_all := lw_g (lw_at lw_m2 216 rfl) rfl
theorem q551 : (Jvm.Cond.privateMethod ({ cls := "WheelTables", name := "none", desc := "(I)I" } : Jvm.MethodName)) ∈ lw_tbl := lw_at lw_m2 217 rfl
theorem q552 : (Jvm.Cond.instanceMethod ({ cls := "WheelTables", name := "none", desc := "(I)I" } : Jvm.MethodName)) ∈ lw_all := lw_g (lw_at lw_m2 218 rfl) rfl
theorem q553 : (Jvm.Cond.code ({ cls := "WheelTables", name := "none", desc := "(I)I" } : Jvm.MethodName) prog_1_method_4_code (2 : Nat) (Option.some Jvm.ClassFile.FieldType.int)) ∈ lw_all := lw_g (lw_at lw_m2 219 rfl) rfl
theorem q554 : (Jvm.Cond.methodLink "WheelTables" (173 : Nat) ({ cls := "WheelTables$Tray", name := "get", desc := "(I)J" } : Jvm.MethodName)) ∈ lw_all := lw_g (lw_at lw_m2 220 rfl) rfl
theorem q558 : (Jvm.Cond.constantLong "WheelTables" (177 : Nat) (-1 : Int64)) ∈ lw_all := lw_g (lw_at lw_m2 224 rfl) rfl
theorem q560 : (Jvm.Cond.instanceMethod ({ cls := "WheelTables", name := "pour", desc := "(IIIII)Z" } : Jvm.MethodName)) ∈ lw_all := lw_g (lw_at lw_m2 226 rfl) rfl
theorem q561 : (Jvm.Cond.selects "WheelTables" ({ cls := "WheelTables", name := "pour", desc := "(IIIII)Z" } : Jvm.MethodName) ({ cls := "WheelTables", name := "pour", desc := "(IIIII)Z" } : Jvm.MethodName)) ∈ lw_all := lw_g (lw_at lw_m2 227 rfl) rfl
theorem q562 : (Jvm.Cond.codeWith ({ cls := "WheelTables", name := "pour", desc := "(IIIII)Z" } : Jvm.MethodName) prog_1_method_10_code (9 : Nat) (Option.some Jvm.ClassFile.FieldType.boolean) [((80 : Nat), (92 : Nat), (95 : Nat), (165 : Nat)), ((80 : Nat), (92 : Nat), (103 : Nat), (191 : Nat))]) ∈ lw_all := lw_g (lw_at lw_m2 228 rfl) rfl
theorem q563 : (Jvm.Cond.classLink "WheelTables" (191 : Nat) "java/lang/IndexOutOfBoundsException") ∈ lw_all := lw_g (lw_at lw_m2 229 rfl) rfl
theorem q564 : (Jvm.Cond.methodLink "WheelTables" (185 : Nat) ({ cls := "java/lang/System", name := "arraycopy", desc := "(Ljava/lang/Object;ILjava/lang/Object;II)V" } : Jvm.MethodName)) ∈ lw_all := lw_g (lw_at lw_m2 230 rfl) rfl
theorem q568 : (Jvm.Cond.instanceMethod ({ cls := "WheelTables", name := "engine", desc := "(III)I" } : Jvm.MethodName)) ∈ lw_all := lw_g (lw_at lw_m2 234 rfl) rfl
theorem q569 : (Jvm.Cond.selects "WheelTables" ({ cls := "WheelTables", name := "engine", desc := "(III)I" } : Jvm.MethodName) ({ cls := "WheelTables", name := "engine", desc := "(III)I" } : Jvm.MethodName)) ∈ lw_all := lw_g (lw_at lw_m2 235 rfl) rfl
theorem q570 : (Jvm.Cond.code ({ cls := "WheelTables", name := "engine", desc := "(III)I" } : Jvm.MethodName) prog_1_method_13_code (7 : Nat) (Option.some Jvm.ClassFile.FieldType.int)) ∈ lw_all := lw_g (lw_at lw_m2 236 rfl) rfl
theorem q571 : (Jvm.Cond.methodLink "WheelTables" (204 : Nat) ({ cls := "WheelTables$Tray", name := "many", desc := "()I" } : Jvm.MethodName)) ∈ lw_all := lw_g (lw_at lw_m2 237 rfl) rfl
theorem q575 : (Jvm.Cond.constantLong "WheelTables" (208 : Nat) (2 : Int64)) ∈ lw_all := lw_g (lw_at lw_m3 1 rfl) rfl
theorem q576 : (Jvm.Cond.constantLong "WheelTables" (210 : Nat) (12 : Int64)) ∈ lw_all := lw_g (lw_at lw_m3 2 rfl) rfl
theorem q578 : (Jvm.Cond.methodLink "WheelTables" (212 : Nat) ({ cls := "WheelTables$Engine", name := "<init>", desc := "(II[I)V" } : Jvm.MethodName)) ∈ lw_all := lw_g (lw_at lw_m3 4 rfl) rfl
theorem q592 : (Jvm.Cond.fieldLinkNest "WheelTables" (226 : Nat) "WheelTables$Axis" "figure" "[I" "WheelTables") ∈ lw_tbl := lw_at lw_m3 18 rfl
theorem q598 : (Jvm.Cond.fieldLink "WheelTables" (199 : Nat) "WheelTables$Engine" "axes" "I") ∈ lw_all := lw_g (lw_at lw_m3 24 rfl) rfl
theorem q600 : (Jvm.Cond.fieldLink "WheelTables" (201 : Nat) "WheelTables$Engine" "wheels" "I") ∈ lw_all := lw_g (lw_at lw_m3 26 rfl) rfl
theorem q602 : (Jvm.Cond.fieldLinkNest "WheelTables" (231 : Nat) "WheelTables$Engine" "radix" "[I" "WheelTables") ∈ lw_tbl := lw_at lw_m3 28 rfl
theorem q604 : (Jvm.Cond.fieldLinkNest "WheelTables" (222 : Nat) "WheelTables$Engine" "axis" "[LWheelTables$Axis;" "WheelTables") ∈ lw_tbl := lw_at lw_m3 30 rfl
theorem q606 : (Jvm.Cond.fieldLinkNest "WheelTables" (255 : Nat) "WheelTables$Engine" "turn" "I" "WheelTables") ∈ lw_tbl := lw_at lw_m3 32 rfl
theorem q608 : (Jvm.Cond.fieldLinkNest "WheelTables" (258 : Nat) "WheelTables$Engine" "mishaps" "I" "WheelTables") ∈ lw_tbl := lw_at lw_m3 34 rfl
theorem q637 : (Jvm.Cond.methodLink "WheelTables" (215 : Nat) ({ cls := "WheelTables", name := "gives", desc := "(I)I" } : Jvm.MethodName)) ∈ lw_all := lw_g (lw_at lw_m3 63 rfl) rfl
theorem q638 : (Jvm.Cond.privateMethod ({ cls := "WheelTables", name := "gives", desc := "(I)I" } : Jvm.MethodName)) ∈ lw_tbl := lw_at lw_m3 64 rfl
theorem q639 : (Jvm.Cond.instanceMethod ({ cls := "WheelTables", name := "gives", desc := "(I)I" } : Jvm.MethodName)) ∈ lw_all := lw_g (lw_at lw_m3 65 rfl) rfl
theorem q640 : (Jvm.Cond.code ({ cls := "WheelTables", name := "gives", desc := "(I)I" } : Jvm.MethodName) prog_1_method_5_code (2 : Nat) (Option.some Jvm.ClassFile.FieldType.int)) ∈ lw_all := lw_g (lw_at lw_m3 66 rfl) rfl
theorem q642 : (Jvm.Cond.instanceMethod ({ cls := "WheelTables", name := "figure", desc := "(III)I" } : Jvm.MethodName)) ∈ lw_all := lw_g (lw_at lw_m3 68 rfl) rfl
theorem q643 : (Jvm.Cond.selects "WheelTables" ({ cls := "WheelTables", name := "figure", desc := "(III)I" } : Jvm.MethodName) ({ cls := "WheelTables", name := "figure", desc := "(III)I" } : Jvm.MethodName)) ∈ lw_all := lw_g (lw_at lw_m3 69 rfl) rfl
theorem q644 : (Jvm.Cond.code ({ cls := "WheelTables", name := "figure", desc := "(III)I" } : Jvm.MethodName) prog_1_method_14_code (4 : Nat) (Option.some Jvm.ClassFile.FieldType.int)) ∈ lw_all := lw_g (lw_at lw_m3 70 rfl) rfl
theorem q645 : (Jvm.Cond.methodLink "WheelTables" (218 : Nat) ({ cls := "WheelTables", name := "isWheel", desc := "(III)Z" } : Jvm.MethodName)) ∈ lw_all := lw_g (lw_at lw_m3 71 rfl) rfl
theorem q646 : (Jvm.Cond.privateMethod ({ cls := "WheelTables", name := "isWheel", desc := "(III)Z" } : Jvm.MethodName)) ∈ lw_tbl := lw_at lw_m3 72 rfl
theorem q647 : (Jvm.Cond.instanceMethod ({ cls := "WheelTables", name := "isWheel", desc := "(III)Z" } : Jvm.MethodName)) ∈ lw_all := lw_g (lw_at lw_m3 73 rfl) rfl
theorem q648 : (Jvm.Cond.code ({ cls := "WheelTables", name := "isWheel", desc := "(III)Z" } : Jvm.MethodName) prog_1_method_12_code (4 : Nat) (Option.some Jvm.ClassFile.FieldType.boolean)) ∈ lw_all := lw_g (lw_at lw_m3 74 rfl) rfl
theorem q649 : (Jvm.Cond.methodLink "WheelTables" (196 : Nat) ({ cls := "WheelTables", name := "isEngine", desc := "(I)Z" } : Jvm.MethodName)) ∈ lw_all := lw_g (lw_at lw_m3 75 rfl) rfl
theorem q650 : (Jvm.Cond.privateMethod ({ cls := "WheelTables", name := "isEngine", desc := "(I)Z" } : Jvm.MethodName)) ∈ lw_tbl := lw_at lw_m3 76 rfl
theorem q651 : (Jvm.Cond.instanceMethod ({ cls := "WheelTables", name := "isEngine", desc := "(I)Z" } : Jvm.MethodName)) ∈ lw_all := lw_g (lw_at lw_m3 77 rfl) rfl
theorem q652 : (Jvm.Cond.code ({ cls := "WheelTables", name := "isEngine", desc := "(I)Z" } : Jvm.MethodName) prog_1_method_11_code (2 : Nat) (Option.some Jvm.ClassFile.FieldType.boolean)) ∈ lw_all := lw_g (lw_at lw_m3 78 rfl) rfl
theorem q654 : (Jvm.Cond.instanceMethod ({ cls := "WheelTables", name := "put", desc := "(IIII)Z" } : Jvm.MethodName)) ∈ lw_all := lw_g (lw_at lw_m3 80 rfl) rfl
theorem q655 : (Jvm.Cond.selects "WheelTables" ({ cls := "WheelTables", name := "put", desc := "(IIII)Z" } : Jvm.MethodName) ({ cls := "WheelTables", name := "put", desc := "(IIII)Z" } : Jvm.MethodName)) ∈ lw_all := lw_g (lw_at lw_m3 81 rfl) rfl
theorem q656 : (Jvm.Cond.code ({ cls := "WheelTables", name := "put", desc := "(IIII)Z" } : Jvm.MethodName) prog_1_method_15_code (5 : Nat) (Option.some Jvm.ClassFile.FieldType.boolean)) ∈ lw_all := lw_g (lw_at lw_m3 82 rfl) rfl
theorem q658 : (Jvm.Cond.instanceMethod ({ cls := "WheelTables", name := "number", desc := "(II)J" } : Jvm.MethodName)) ∈ lw_all := lw_g (lw_at lw_m3 84 rfl) rfl
theorem q659 : (Jvm.Cond.selects "WheelTables" ({ cls := "WheelTables", name := "number", desc := "(II)J" } : Jvm.MethodName) ({ cls := "WheelTables", name := "number", desc := "(II)J" } : Jvm.MethodName)) ∈ lw_all := lw_g (lw_at lw_m3 85 rfl) rfl
theorem q660 : (Jvm.Cond.code ({ cls := "WheelTables", name := "number", desc := "(II)J" } : Jvm.MethodName) prog_1_method_16_code (3 : Nat) (Option.some Jvm.ClassFile.FieldType.long)) ∈ lw_all := lw_g (lw_at lw_m3 86 rfl) rfl
theorem q661 : (Jvm.Cond.methodLink "WheelTables" (234 : Nat) ({ cls := "WheelTables$Engine", name := "number", desc := "(I)J" } : Jvm.MethodName)) ∈ lw_all := lw_g (lw_at lw_m3 87 rfl) rfl
theorem q666 : (Jvm.Cond.instanceMethod ({ cls := "WheelTables", name := "set", desc := "(III)Z" } : Jvm.MethodName)) ∈ lw_all := lw_g (lw_at lw_m3 92 rfl) rfl
theorem q667 : (Jvm.Cond.selects "WheelTables" ({ cls := "WheelTables", name := "set", desc := "(III)Z" } : Jvm.MethodName) ({ cls := "WheelTables", name := "set", desc := "(III)Z" } : Jvm.MethodName)) ∈ lw_all := lw_g (lw_at lw_m3 93 rfl) rfl
theorem q668 : (Jvm.Cond.code ({ cls := "WheelTables", name := "set", desc := "(III)Z" } : Jvm.MethodName) prog_1_method_19_code (7 : Nat) (Option.some Jvm.ClassFile.FieldType.boolean)) ∈ lw_all := lw_g (lw_at lw_m3 94 rfl) rfl
theorem q669 : (Jvm.Cond.methodLink "WheelTables" (237 : Nat) ({ cls := "java/lang/Math", name := "abs", desc := "(D)D" } : Jvm.MethodName)) ∈ lw_all := lw_g (lw_at lw_m3 95 rfl) rfl
theorem q679 : (Jvm.Cond.constantDouble "WheelTables" (243 : Nat) (4741671816366391296 : UInt64)) ∈ lw_all := lw_g (lw_at lw_m3 105 rfl) rfl
theorem q680 : (Jvm.Cond.methodLink "WheelTables" (245 : Nat) ({ cls := "WheelTables", name := "differences", desc := "(I)V" } : Jvm.MethodName)) ∈ lw_all := lw_g (lw_at lw_m3 106 rfl) rfl
theorem q681 : (Jvm.Cond.privateMethod ({ cls := "WheelTables", name := "differences", desc := "(I)V" } : Jvm.MethodName)) ∈ lw_tbl := lw_at lw_m3 107 rfl
theorem q682 : (Jvm.Cond.instanceMethod ({ cls := "WheelTables", name := "differences", desc := "(I)V" } : Jvm.MethodName)) ∈ lw_all := lw_g (lw_at lw_m3 108 rfl) rfl
theorem q683 : (Jvm.Cond.code ({ cls := "WheelTables", name := "differences", desc := "(I)V" } : Jvm.MethodName) prog_1_method_17_code (4 : Nat) (Option.none : Option Jvm.ClassFile.FieldType)) ∈ lw_all := lw_g (lw_at lw_m3 109 rfl) rfl
theorem q684 : (Jvm.Cond.methodLink "WheelTables" (249 : Nat) ({ cls := "WheelTables", name := "steps", desc := "(I)V" } : Jvm.MethodName)) ∈ lw_all := lw_g (lw_at lw_m3 110 rfl) rfl
theorem q685 : (Jvm.Cond.privateMethod ({ cls := "WheelTables", name := "steps", desc := "(I)V" } : Jvm.MethodName)) ∈ lw_tbl := lw_at lw_m3 111 rfl
theorem q686 : (Jvm.Cond.instanceMethod ({ cls := "WheelTables", name := "steps", desc := "(I)V" } : Jvm.MethodName)) ∈ lw_all := lw_g (lw_at lw_m3 112 rfl) rfl
theorem q687 : (Jvm.Cond.code ({ cls := "WheelTables", name := "steps", desc := "(I)V" } : Jvm.MethodName) prog_1_method_18_code (3 : Nat) (Option.none : Option Jvm.ClassFile.FieldType)) ∈ lw_all := lw_g (lw_at lw_m3 113 rfl) rfl
theorem q688 : (Jvm.Cond.methodLink "WheelTables" (252 : Nat) ({ cls := "WheelTables$Engine", name := "shows", desc := "(IJ)V" } : Jvm.MethodName)) ∈ lw_all := lw_g (lw_at lw_m3 114 rfl) rfl
theorem q699 : (Jvm.Cond.instanceMethod ({ cls := "WheelTables", name := "mishap", desc := "(IIIII)Z" } : Jvm.MethodName)) ∈ lw_all := lw_g (lw_at lw_m3 125 rfl) rfl
theorem q700 : (Jvm.Cond.selects "WheelTables" ({ cls := "WheelTables", name := "mishap", desc := "(IIIII)Z" } : Jvm.MethodName) ({ cls := "WheelTables", name := "mishap", desc := "(IIIII)Z" } : Jvm.MethodName)) ∈ lw_all := lw_g (lw_at lw_m3 126 rfl) rfl
theorem q701 : (Jvm.Cond.code ({ cls := "WheelTables", name := "mishap", desc := "(IIIII)Z" } : Jvm.MethodName) prog_1_method_20_code (6 : Nat) (Option.some Jvm.ClassFile.FieldType.boolean)) ∈ lw_all := lw_g (lw_at lw_m3 127 rfl) rfl
theorem q702 : (Jvm.Cond.methodLink "WheelTables" (261 : Nat) ({ cls := "WheelTables$Engine", name := "mishap", desc := "(IIII)V" } : Jvm.MethodName)) ∈ lw_all := lw_g (lw_at lw_m3 128 rfl) rfl
theorem q707 : (Jvm.Cond.instanceMethod ({ cls := "WheelTables", name := "mend", desc := "(I)Z" } : Jvm.MethodName)) ∈ lw_all := lw_g (lw_at lw_m3 133 rfl) rfl
theorem q708 : (Jvm.Cond.selects "WheelTables" ({ cls := "WheelTables", name := "mend", desc := "(I)Z" } : Jvm.MethodName) ({ cls := "WheelTables", name := "mend", desc := "(I)Z" } : Jvm.MethodName)) ∈ lw_all := lw_g (lw_at lw_m3 134 rfl) rfl
theorem q709 : (Jvm.Cond.code ({ cls := "WheelTables", name := "mend", desc := "(I)Z" } : Jvm.MethodName) prog_1_method_21_code (2 : Nat) (Option.some Jvm.ClassFile.FieldType.boolean)) ∈ lw_all := lw_g (lw_at lw_m3 135 rfl) rfl
theorem q711 : (Jvm.Cond.instanceMethod ({ cls := "WheelTables", name := "turn", desc := "(II)I" } : Jvm.MethodName)) ∈ lw_all := lw_g (lw_at lw_m3 137 rfl) rfl
theorem q712 : (Jvm.Cond.selects "WheelTables" ({ cls := "WheelTables", name := "turn", desc := "(II)I" } : Jvm.MethodName) ({ cls := "WheelTables", name := "turn", desc := "(II)I" } : Jvm.MethodName)) ∈ lw_all := lw_g (lw_at lw_m3 138 rfl) rfl
theorem q713 : (Jvm.Cond.code ({ cls := "WheelTables", name := "turn", desc := "(II)I" } : Jvm.MethodName) prog_1_method_22_code (5 : Nat) (Option.some Jvm.ClassFile.FieldType.int)) ∈ lw_all := lw_g (lw_at lw_m3 139 rfl) rfl
theorem q714 : (Jvm.Cond.methodLink "WheelTables" (265 : Nat) ({ cls := "WheelTables$Engine", name := "turns", desc := "()V" } : Jvm.MethodName)) ∈ lw_all := lw_g (lw_at lw_m3 140 rfl) rfl
theorem q727 : (Jvm.Cond.instanceMethod ({ cls := "WheelTables", name := "sheet", desc := "(III)Z" } : Jvm.MethodName)) ∈ lw_all := lw_g (lw_at lw_m3 153 rfl) rfl
theorem q728 : (Jvm.Cond.selects "WheelTables" ({ cls := "WheelTables", name := "sheet", desc := "(III)Z" } : Jvm.MethodName) ({ cls := "WheelTables", name := "sheet", desc := "(III)Z" } : Jvm.MethodName)) ∈ lw_all := lw_g (lw_at lw_m3 154 rfl) rfl
theorem q729 : (Jvm.Cond.code ({ cls := "WheelTables", name := "sheet", desc := "(III)Z" } : Jvm.MethodName) prog_1_method_24_code (7 : Nat) (Option.some Jvm.ClassFile.FieldType.boolean)) ∈ lw_all := lw_g (lw_at lw_m3 155 rfl) rfl
theorem q730 : (Jvm.Cond.methodLink "WheelTables" (268 : Nat) ({ cls := "WheelTables", name := "wrongSheet", desc := "(III)I" } : Jvm.MethodName)) ∈ lw_all := lw_g (lw_at lw_m3 156 rfl) rfl
theorem q731 : (Jvm.Cond.privateMethod ({ cls := "WheelTables", name := "wrongSheet", desc := "(III)I" } : Jvm.MethodName)) ∈ lw_tbl := lw_at lw_m3 157 rfl
theorem q732 : (Jvm.Cond.instanceMethod ({ cls := "WheelTables", name := "wrongSheet", desc := "(III)I" } : Jvm.MethodName)) ∈ lw_all := lw_g (lw_at lw_m3 158 rfl) rfl
theorem q733 : (Jvm.Cond.code ({ cls := "WheelTables", name := "wrongSheet", desc := "(III)I" } : Jvm.MethodName) prog_1_method_23_code (4 : Nat) (Option.some Jvm.ClassFile.FieldType.int)) ∈ lw_all := lw_g (lw_at lw_m3 159 rfl) rfl
theorem q735 : (Jvm.Cond.instanceMethod ({ cls := "WheelTables", name := "explain", desc := "(III)I" } : Jvm.MethodName)) ∈ lw_all := lw_g (lw_at lw_m3 161 rfl) rfl
theorem q736 : (Jvm.Cond.selects "WheelTables" ({ cls := "WheelTables", name := "explain", desc := "(III)I" } : Jvm.MethodName) ({ cls := "WheelTables", name := "explain", desc := "(III)I" } : Jvm.MethodName)) ∈ lw_all := lw_g (lw_at lw_m3 162 rfl) rfl
theorem q737 : (Jvm.Cond.code ({ cls := "WheelTables", name := "explain", desc := "(III)I" } : Jvm.MethodName) prog_1_method_26_code (11 : Nat) (Option.some Jvm.ClassFile.FieldType.int)) ∈ lw_all := lw_g (lw_at lw_m3 163 rfl) rfl
theorem q738 : (Jvm.Cond.methodLink "WheelTables" (276 : Nat) ({ cls := "WheelTables$Engine", name := "like", desc := "(LWheelTables$Engine;)V" } : Jvm.MethodName)) ∈ lw_all := lw_g (lw_at lw_m3 164 rfl) rfl
theorem q742 : (Jvm.Cond.methodLink "WheelTables" (280 : Nat) ({ cls := "WheelTables", name := "makes", desc := "(LWheelTables$Engine;LWheelTables$Tray;I)Z" } : Jvm.MethodName)) ∈ lw_all := lw_g (lw_at lw_m3 168 rfl) rfl
theorem q743 : (Jvm.Cond.privateMethod ({ cls := "WheelTables", name := "makes", desc := "(LWheelTables$Engine;LWheelTables$Tray;I)Z" } : Jvm.MethodName)) ∈ lw_tbl := lw_at lw_m3 169 rfl
theorem q744 : (Jvm.Cond.instanceMethod ({ cls := "WheelTables", name := "makes", desc := "(LWheelTables$Engine;LWheelTables$Tray;I)Z" } : Jvm.MethodName)) ∈ lw_all := lw_g (lw_at lw_m3 170 rfl) rfl
theorem q745 : (Jvm.Cond.code ({ cls := "WheelTables", name := "makes", desc := "(LWheelTables$Engine;LWheelTables$Tray;I)Z" } : Jvm.MethodName) prog_1_method_25_code (5 : Nat) (Option.some Jvm.ClassFile.FieldType.boolean)) ∈ lw_all := lw_g (lw_at lw_m3 171 rfl) rfl
theorem q746 : (Jvm.Cond.methodLink "WheelTables" (272 : Nat) ({ cls := "WheelTables$Tray", name := "cut", desc := "(J)J" } : Jvm.MethodName)) ∈ lw_all := lw_g (lw_at lw_m3 172 rfl) rfl
theorem q751 : (Jvm.Cond.instanceMethod ({ cls := "WheelTables", name := "because", desc := "(I)I" } : Jvm.MethodName)) ∈ lw_all := lw_g (lw_at lw_m3 177 rfl) rfl
theorem q752 : (Jvm.Cond.selects "WheelTables" ({ cls := "WheelTables", name := "because", desc := "(I)I" } : Jvm.MethodName) ({ cls := "WheelTables", name := "because", desc := "(I)I" } : Jvm.MethodName)) ∈ lw_all := lw_g (lw_at lw_m3 178 rfl) rfl
theorem q753 : (Jvm.Cond.code ({ cls := "WheelTables", name := "because", desc := "(I)I" } : Jvm.MethodName) prog_1_method_27_code (2 : Nat) (Option.some Jvm.ClassFile.FieldType.int)) ∈ lw_all := lw_g (lw_at lw_m3 179 rfl) rfl
theorem q755 : (Jvm.Cond.instanceMethod ({ cls := "WheelTables", name := "finer", desc := "(IIII)I" } : Jvm.MethodName)) ∈ lw_all := lw_g (lw_at lw_m3 181 rfl) rfl
theorem q756 : (Jvm.Cond.selects "WheelTables" ({ cls := "WheelTables", name := "finer", desc := "(IIII)I" } : Jvm.MethodName) ({ cls := "WheelTables", name := "finer", desc := "(IIII)I" } : Jvm.MethodName)) ∈ lw_all := lw_g (lw_at lw_m3 182 rfl) rfl
theorem q757 : (Jvm.Cond.code ({ cls := "WheelTables", name := "finer", desc := "(IIII)I" } : Jvm.MethodName) prog_1_method_31_code (9 : Nat) (Option.some Jvm.ClassFile.FieldType.int)) ∈ lw_all := lw_g (lw_at lw_m3 183 rfl) rfl
theorem q758 : (Jvm.Cond.constantLong "WheelTables" (307 : Nat) (-10000 : Int64)) ∈ lw_all := lw_g (lw_at lw_m3 184 rfl) rfl
theorem q759 : (Jvm.Cond.constantLong "WheelTables" (309 : Nat) (10000 : Int64)) ∈ lw_all := lw_g (lw_at lw_m3 185 rfl) rfl
theorem q760 : (Jvm.Cond.methodLink "WheelTables" (303 : Nat) ({ cls := "WheelTables", name := "at", desc := "(III)J" } : Jvm.MethodName)) ∈ lw_all := lw_g (lw_at lw_m3 186 rfl) rfl
theorem q761 : (Jvm.Cond.privateMethod ({ cls := "WheelTables", name := "at", desc := "(III)J" } : Jvm.MethodName)) ∈ lw_tbl := lw_at lw_m3 187 rfl
theorem q762 : (Jvm.Cond.instanceMethod ({ cls := "WheelTables", name := "at", desc := "(III)J" } : Jvm.MethodName)) ∈ lw_all := lw_g (lw_at lw_m3 188 rfl) rfl
theorem q763 : (Jvm.Cond.code ({ cls := "WheelTables", name := "at", desc := "(III)J" } : Jvm.MethodName) prog_1_method_28_code (12 : Nat) (Option.some Jvm.ClassFile.FieldType.long)) ∈ lw_all := lw_g (lw_at lw_m3 189 rfl) rfl
theorem q764 : (Jvm.Cond.methodLink "WheelTables" (311 : Nat) ({ cls := "WheelTables", name := "isRight", desc := "(IIIJ)Z" } : Jvm.MethodName)) ∈ lw_all := lw_g (lw_at lw_m3 190 rfl) rfl
theorem q765 : (Jvm.Cond.privateMethod ({ cls := "WheelTables", name := "isRight", desc := "(IIIJ)Z" } : Jvm.MethodName)) ∈ lw_tbl := lw_at lw_m3 191 rfl
theorem q766 : (Jvm.Cond.instanceMethod ({ cls := "WheelTables", name := "isRight", desc := "(IIIJ)Z" } : Jvm.MethodName)) ∈ lw_all := lw_g (lw_at lw_m3 192 rfl) rfl
theorem q767 : (Jvm.Cond.code ({ cls := "WheelTables", name := "isRight", desc := "(IIIJ)Z" } : Jvm.MethodName) prog_1_method_30_code (7 : Nat) (Option.some Jvm.ClassFile.FieldType.boolean)) ∈ lw_all := lw_g (lw_at lw_m3 193 rfl) rfl
theorem q768 : (Jvm.Cond.methodLink "WheelTables" (299 : Nat) ({ cls := "WheelTables", name := "rounded", desc := "(JJJ)J" } : Jvm.MethodName)) ∈ lw_all := lw_g (lw_at lw_m3 194 rfl) rfl
theorem q769 : (Jvm.Cond.static ({ cls := "WheelTables", name := "rounded", desc := "(JJJ)J" } : Jvm.MethodName)) ∈ lw_all := lw_g (lw_at lw_m3 195 rfl) rfl
theorem q770 : (Jvm.Cond.code ({ cls := "WheelTables", name := "rounded", desc := "(JJJ)J" } : Jvm.MethodName) prog_1_method_29_code (10 : Nat) (Option.some Jvm.ClassFile.FieldType.long)) ∈ lw_all := lw_g (lw_at lw_m3 196 rfl) rfl
theorem q771 : (Jvm.Cond.methodLink "WheelTables" (288 : Nat) ({ cls := "java/lang/Math", name := "floorDiv", desc := "(JJ)J" } : Jvm.MethodName)) ∈ lw_all := lw_g (lw_at lw_m3 197 rfl) rfl
theorem q772 : (Jvm.Cond.methodLink "WheelTables" (292 : Nat) ({ cls := "java/lang/Math", name := "floorMod", desc := "(JJ)J" } : Jvm.MethodName)) ∈ lw_all := lw_g (lw_at lw_m3 198 rfl) rfl
theorem q773 : (Jvm.Cond.constantLong "WheelTables" (315 : Nat) (10 : Int64)) ∈ lw_all := lw_g (lw_at lw_m3 199 rfl) rfl
theorem q775 : (Jvm.Cond.instanceMethod ({ cls := "WheelTables", name := "feed", desc := "(IIIII)I" } : Jvm.MethodName)) ∈ lw_all := lw_g (lw_at lw_m3 201 rfl) rfl
theorem q776 : (Jvm.Cond.selects "WheelTables" ({ cls := "WheelTables", name := "feed", desc := "(IIIII)I" } : Jvm.MethodName) ({ cls := "WheelTables", name := "feed", desc := "(IIIII)I" } : Jvm.MethodName)) ∈ lw_all := lw_g (lw_at lw_m3 202 rfl) rfl
theorem q777 : (Jvm.Cond.code ({ cls := "WheelTables", name := "feed", desc := "(IIIII)I" } : Jvm.MethodName) prog_1_method_32_code (6 : Nat) (Option.some Jvm.ClassFile.FieldType.int)) ∈ lw_all := lw_g (lw_at lw_m3 203 rfl) rfl
theorem q778 : (Jvm.Cond.methodLink "WheelTables" (320 : Nat) ({ cls := "WheelTables", name := "four", desc := "(I)V" } : Jvm.MethodName)) ∈ lw_all := lw_g (lw_at lw_m3 204 rfl) rfl
theorem q779 : (Jvm.Cond.privateMethod ({ cls := "WheelTables", name := "four", desc := "(I)V" } : Jvm.MethodName)) ∈ lw_tbl := lw_at lw_m3 205 rfl
theorem q780 : (Jvm.Cond.instanceMethod ({ cls := "WheelTables", name := "four", desc := "(I)V" } : Jvm.MethodName)) ∈ lw_all := lw_g (lw_at lw_m3 206 rfl) rfl
theorem q781 : (Jvm.Cond.code ({ cls := "WheelTables", name := "four", desc := "(I)V" } : Jvm.MethodName) prog_1_method_33_code (3 : Nat) (Option.none : Option Jvm.ClassFile.FieldType)) ∈ lw_all := lw_g (lw_at lw_m3 207 rfl) rfl
theorem q783 : (Jvm.Cond.instanceMethod ({ cls := "WheelTables", name := "cards", desc := "(I)I" } : Jvm.MethodName)) ∈ lw_all := lw_g (lw_at lw_m3 209 rfl) rfl
theorem q784 : (Jvm.Cond.selects "WheelTables" ({ cls := "WheelTables", name := "cards", desc := "(I)I" } : Jvm.MethodName) ({ cls := "WheelTables", name := "cards", desc := "(I)I" } : Jvm.MethodName)) ∈ lw_all := lw_g (lw_at lw_m3 210 rfl) rfl
theorem q785 : (Jvm.Cond.codeWith ({ cls := "WheelTables", name := "cards", desc := "(I)I" } : Jvm.MethodName) prog_1_method_34_code (4 : Nat) (Option.some Jvm.ClassFile.FieldType.int) [((39 : Nat), (52 : Nat), (55 : Nat), (21 : Nat))]) ∈ lw_all := lw_g (lw_at lw_m3 211 rfl) rfl
theorem q786 : (Jvm.Cond.methodLink "WheelTables" (327 : Nat) ({ cls := "WheelTables$Reader", name := "read", desc := "(I[LWheelTables$Card;)I" } : Jvm.MethodName)) ∈ lw_all := lw_g (lw_at lw_m3 212 rfl) rfl
theorem q891 : (Jvm.Cond.fieldLink "WheelTables" (364 : Nat) "WheelTables$Card" "kind" "I") ∈ lw_all := lw_g (lw_at lw_m4 77 rfl) rfl
theorem q894 : (Jvm.Cond.fieldLinkNest "WheelTables" (362 : Nat) "WheelTables$Card" "at" "[I" "WheelTables") ∈ lw_tbl := lw_at lw_m4 80 rfl
theorem q896 : (Jvm.Cond.fieldLinkNest "WheelTables" (365 : Nat) "WheelTables$Card" "number" "J" "WheelTables") ∈ lw_tbl := lw_at lw_m4 82 rfl
theorem q898 : (Jvm.Cond.fieldLinkNest "WheelTables" (392 : Nat) "WheelTables$Card" "when" "I" "WheelTables") ∈ lw_tbl := lw_at lw_m4 84 rfl
theorem q933 : (Jvm.Cond.instanceMethod ({ cls := "WheelTables", name := "fault", desc := "(I)I" } : Jvm.MethodName)) ∈ lw_all := lw_g (lw_at lw_m4 119 rfl) rfl
theorem q934 : (Jvm.Cond.selects "WheelTables" ({ cls := "WheelTables", name := "fault", desc := "(I)I" } : Jvm.MethodName) ({ cls := "WheelTables", name := "fault", desc := "(I)I" } : Jvm.MethodName)) ∈ lw_all := lw_g (lw_at lw_m4 120 rfl) rfl
theorem q935 : (Jvm.Cond.code ({ cls := "WheelTables", name := "fault", desc := "(I)I" } : Jvm.MethodName) prog_1_method_35_code (2 : Nat) (Option.some Jvm.ClassFile.FieldType.int)) ∈ lw_all := lw_g (lw_at lw_m4 121 rfl) rfl
theorem q937 : (Jvm.Cond.instanceMethod ({ cls := "WheelTables", name := "run", desc := "()I" } : Jvm.MethodName)) ∈ lw_all := lw_g (lw_at lw_m4 123 rfl) rfl
theorem q938 : (Jvm.Cond.selects "WheelTables" ({ cls := "WheelTables", name := "run", desc := "()I" } : Jvm.MethodName) ({ cls := "WheelTables", name := "run", desc := "()I" } : Jvm.MethodName)) ∈ lw_all := lw_g (lw_at lw_m4 124 rfl) rfl
theorem q939 : (Jvm.Cond.code ({ cls := "WheelTables", name := "run", desc := "()I" } : Jvm.MethodName) prog_1_method_36_code (2 : Nat) (Option.some Jvm.ClassFile.FieldType.int)) ∈ lw_all := lw_g (lw_at lw_m4 125 rfl) rfl
theorem q940 : (Jvm.Cond.methodLink "WheelTables" (358 : Nat) ({ cls := "WheelTables", name := "does", desc := "(LWheelTables$Card;I)I" } : Jvm.MethodName)) ∈ lw_all := lw_g (lw_at lw_m4 126 rfl) rfl
theorem q941 : (Jvm.Cond.privateMethod ({ cls := "WheelTables", name := "does", desc := "(LWheelTables$Card;I)I" } : Jvm.MethodName)) ∈ lw_tbl := lw_at lw_m4 127 rfl
theorem q942 : (Jvm.Cond.instanceMethod ({ cls := "WheelTables", name := "does", desc := "(LWheelTables$Card;I)I" } : Jvm.MethodName)) ∈ lw_all := lw_g (lw_at lw_m4 128 rfl) rfl
theorem q943 : (Jvm.Cond.code ({ cls := "WheelTables", name := "does", desc := "(LWheelTables$Card;I)I" } : Jvm.MethodName) prog_1_method_37_code (7 : Nat) (Option.some Jvm.ClassFile.FieldType.int)) ∈ lw_all := lw_g (lw_at lw_m4 129 rfl) rfl
theorem q944 : (Jvm.Cond.methodLink "WheelTables" (367 : Nat) ({ cls := "WheelTables", name := "results", desc := "(LWheelTables$Card;JII)V" } : Jvm.MethodName)) ∈ lw_all := lw_g (lw_at lw_m4 130 rfl) rfl
theorem q945 : (Jvm.Cond.privateMethod ({ cls := "WheelTables", name := "results", desc := "(LWheelTables$Card;JII)V" } : Jvm.MethodName)) ∈ lw_tbl := lw_at lw_m4 131 rfl
theorem q946 : (Jvm.Cond.instanceMethod ({ cls := "WheelTables", name := "results", desc := "(LWheelTables$Card;JII)V" } : Jvm.MethodName)) ∈ lw_all := lw_g (lw_at lw_m4 132 rfl) rfl
theorem q947 : (Jvm.Cond.code ({ cls := "WheelTables", name := "results", desc := "(LWheelTables$Card;JII)V" } : Jvm.MethodName) prog_1_method_40_code (6 : Nat) (Option.none : Option Jvm.ClassFile.FieldType)) ∈ lw_all := lw_g (lw_at lw_m4 133 rfl) rfl
theorem q948 : (Jvm.Cond.methodLink "WheelTables" (371 : Nat) ({ cls := "java/lang/Math", name := "abs", desc := "(J)J" } : Jvm.MethodName)) ∈ lw_all := lw_g (lw_at lw_m4 134 rfl) rfl
theorem q951 : (Jvm.Cond.constantLong "WheelTables" (373 : Nat) (999999999999 : Int64)) ∈ lw_all := lw_g (lw_at lw_m4 137 rfl) rfl
theorem q952 : (Jvm.Cond.methodLink "WheelTables" (395 : Nat) ({ cls := "WheelTables", name := "alarms", desc := "(II)V" } : Jvm.MethodName)) ∈ lw_all := lw_g (lw_at lw_m4 138 rfl) rfl
theorem q953 : (Jvm.Cond.privateMethod ({ cls := "WheelTables", name := "alarms", desc := "(II)V" } : Jvm.MethodName)) ∈ lw_tbl := lw_at lw_m4 139 rfl
theorem q954 : (Jvm.Cond.instanceMethod ({ cls := "WheelTables", name := "alarms", desc := "(II)V" } : Jvm.MethodName)) ∈ lw_all := lw_g (lw_at lw_m4 140 rfl) rfl
theorem q955 : (Jvm.Cond.code ({ cls := "WheelTables", name := "alarms", desc := "(II)V" } : Jvm.MethodName) prog_1_method_39_code (3 : Nat) (Option.none : Option Jvm.ClassFile.FieldType)) ∈ lw_all := lw_g (lw_at lw_m4 141 rfl) rfl
theorem q956 : (Jvm.Cond.constantLong "WheelTables" (375 : Nat) (1000000000000 : Int64)) ∈ lw_all := lw_g (lw_at lw_m4 142 rfl) rfl
theorem q957 : (Jvm.Cond.methodLink "WheelTables" (377 : Nat) ({ cls := "WheelTables", name := "least", desc := "(J)I" } : Jvm.MethodName)) ∈ lw_all := lw_g (lw_at lw_m4 143 rfl) rfl
theorem q958 : (Jvm.Cond.privateMethod ({ cls := "WheelTables", name := "least", desc := "(J)I" } : Jvm.MethodName)) ∈ lw_tbl := lw_at lw_m4 144 rfl
theorem q959 : (Jvm.Cond.instanceMethod ({ cls := "WheelTables", name := "least", desc := "(J)I" } : Jvm.MethodName)) ∈ lw_all := lw_g (lw_at lw_m4 145 rfl) rfl
theorem q960 : (Jvm.Cond.code ({ cls := "WheelTables", name := "least", desc := "(J)I" } : Jvm.MethodName) prog_1_method_46_code (10 : Nat) (Option.some Jvm.ClassFile.FieldType.int)) ∈ lw_all := lw_g (lw_at lw_m4 146 rfl) rfl
theorem q961 : (Jvm.Cond.methodLink "WheelTables" (398 : Nat) ({ cls := "java/lang/Math", name := "min", desc := "(II)I" } : Jvm.MethodName)) ∈ lw_all := lw_g (lw_at lw_m4 147 rfl) rfl
theorem q964 : (Jvm.Cond.methodLink "WheelTables" (381 : Nat) ({ cls := "WheelTables", name := "divides", desc := "(LWheelTables$Card;JJI)V" } : Jvm.MethodName)) ∈ lw_all := lw_g (lw_at lw_m4 150 rfl) rfl
theorem q965 : (Jvm.Cond.privateMethod ({ cls := "WheelTables", name := "divides", desc := "(LWheelTables$Card;JJI)V" } : Jvm.MethodName)) ∈ lw_tbl := lw_at lw_m4 151 rfl
theorem q966 : (Jvm.Cond.instanceMethod ({ cls := "WheelTables", name := "divides", desc := "(LWheelTables$Card;JJI)V" } : Jvm.MethodName)) ∈ lw_all := lw_g (lw_at lw_m4 152 rfl) rfl
theorem q967 : (Jvm.Cond.code ({ cls := "WheelTables", name := "divides", desc := "(LWheelTables$Card;JJI)V" } : Jvm.MethodName) prog_1_method_41_code (7 : Nat) (Option.none : Option Jvm.ClassFile.FieldType)) ∈ lw_all := lw_g (lw_at lw_m4 153 rfl) rfl
theorem q968 : (Jvm.Cond.methodLink "WheelTables" (385 : Nat) ({ cls := "WheelTables", name := "prints", desc := "(JI)V" } : Jvm.MethodName)) ∈ lw_all := lw_g (lw_at lw_m4 154 rfl) rfl
theorem q969 : (Jvm.Cond.privateMethod ({ cls := "WheelTables", name := "prints", desc := "(JI)V" } : Jvm.MethodName)) ∈ lw_tbl := lw_at lw_m4 155 rfl
theorem q970 : (Jvm.Cond.instanceMethod ({ cls := "WheelTables", name := "prints", desc := "(JI)V" } : Jvm.MethodName)) ∈ lw_all := lw_g (lw_at lw_m4 156 rfl) rfl
theorem q971 : (Jvm.Cond.code ({ cls := "WheelTables", name := "prints", desc := "(JI)V" } : Jvm.MethodName) prog_1_method_42_code (4 : Nat) (Option.none : Option Jvm.ClassFile.FieldType)) ∈ lw_all := lw_g (lw_at lw_m4 157 rfl) rfl
theorem q972 : (Jvm.Cond.methodLink "WheelTables" (388 : Nat) ({ cls := "WheelTables", name := "stands", desc := "(LWheelTables$Card;)Z" } : Jvm.MethodName)) ∈ lw_all := lw_g (lw_at lw_m4 158 rfl) rfl
theorem q973 : (Jvm.Cond.privateMethod ({ cls := "WheelTables", name := "stands", desc := "(LWheelTables$Card;)Z" } : Jvm.MethodName)) ∈ lw_tbl := lw_at lw_m4 159 rfl
theorem q974 : (Jvm.Cond.instanceMethod ({ cls := "WheelTables", name := "stands", desc := "(LWheelTables$Card;)Z" } : Jvm.MethodName)) ∈ lw_all := lw_g (lw_at lw_m4 160 rfl) rfl
theorem q975 : (Jvm.Cond.code ({ cls := "WheelTables", name := "stands", desc := "(LWheelTables$Card;)Z" } : Jvm.MethodName) prog_1_method_38_code (2 : Nat) (Option.some Jvm.ClassFile.FieldType.boolean)) ∈ lw_all := lw_g (lw_at lw_m4 161 rfl) rfl
theorem q977 : (Jvm.Cond.instanceMethod ({ cls := "WheelTables", name := "ran", desc := "(I)I" } : Jvm.MethodName)) ∈ lw_all := lw_g (lw_at lw_m4 163 rfl) rfl
theorem q978 : (Jvm.Cond.selects "WheelTables" ({ cls := "WheelTables", name := "ran", desc := "(I)I" } : Jvm.MethodName) ({ cls := "WheelTables", name := "ran", desc := "(I)I" } : Jvm.MethodName)) ∈ lw_all := lw_g (lw_at lw_m4 164 rfl) rfl
theorem q979 : (Jvm.Cond.code ({ cls := "WheelTables", name := "ran", desc := "(I)I" } : Jvm.MethodName) prog_1_method_43_code (2 : Nat) (Option.some Jvm.ClassFile.FieldType.int)) ∈ lw_all := lw_g (lw_at lw_m4 165 rfl) rfl
theorem q981 : (Jvm.Cond.instanceMethod ({ cls := "WheelTables", name := "printed", desc := "(I)J" } : Jvm.MethodName)) ∈ lw_all := lw_g (lw_at lw_m4 167 rfl) rfl
theorem q982 : (Jvm.Cond.selects "WheelTables" ({ cls := "WheelTables", name := "printed", desc := "(I)J" } : Jvm.MethodName) ({ cls := "WheelTables", name := "printed", desc := "(I)J" } : Jvm.MethodName)) ∈ lw_all := lw_g (lw_at lw_m4 168 rfl) rfl
theorem q983 : (Jvm.Cond.code ({ cls := "WheelTables", name := "printed", desc := "(I)J" } : Jvm.MethodName) prog_1_method_44_code (2 : Nat) (Option.some Jvm.ClassFile.FieldType.long)) ∈ lw_all := lw_g (lw_at lw_m4 169 rfl) rfl
theorem q985 : (Jvm.Cond.instanceMethod ({ cls := "WheelTables", name := "place", desc := "(I)J" } : Jvm.MethodName)) ∈ lw_all := lw_g (lw_at lw_m4 171 rfl) rfl
theorem q986 : (Jvm.Cond.selects "WheelTables" ({ cls := "WheelTables", name := "place", desc := "(I)J" } : Jvm.MethodName) ({ cls := "WheelTables", name := "place", desc := "(I)J" } : Jvm.MethodName)) ∈ lw_all := lw_g (lw_at lw_m4 172 rfl) rfl
theorem q987 : (Jvm.Cond.code ({ cls := "WheelTables", name := "place", desc := "(I)J" } : Jvm.MethodName) prog_1_method_45_code (2 : Nat) (Option.some Jvm.ClassFile.FieldType.long)) ∈ lw_all := lw_g (lw_at lw_m4 173 rfl) rfl
theorem q989 : (Jvm.Cond.instanceMethod ({ cls := "WheelTables", name := "turns", desc := "(J)I" } : Jvm.MethodName)) ∈ lw_all := lw_g (lw_at lw_m4 175 rfl) rfl
theorem q990 : (Jvm.Cond.selects "WheelTables" ({ cls := "WheelTables", name := "turns", desc := "(J)I" } : Jvm.MethodName) ({ cls := "WheelTables", name := "turns", desc := "(J)I" } : Jvm.MethodName)) ∈ lw_all := lw_g (lw_at lw_m4 176 rfl) rfl
theorem q991 : (Jvm.Cond.code ({ cls := "WheelTables", name := "turns", desc := "(J)I" } : Jvm.MethodName) prog_1_method_48_code (3 : Nat) (Option.some Jvm.ClassFile.FieldType.int)) ∈ lw_all := lw_g (lw_at lw_m4 177 rfl) rfl
theorem q992 : (Jvm.Cond.methodLink "WheelTables" (402 : Nat) ({ cls := "WheelTables", name := "isGreat", desc := "(J)Z" } : Jvm.MethodName)) ∈ lw_all := lw_g (lw_at lw_m4 178 rfl) rfl
theorem q993 : (Jvm.Cond.static ({ cls := "WheelTables", name := "isGreat", desc := "(J)Z" } : Jvm.MethodName)) ∈ lw_all := lw_g (lw_at lw_m4 179 rfl) rfl
theorem q994 : (Jvm.Cond.code ({ cls := "WheelTables", name := "isGreat", desc := "(J)Z" } : Jvm.MethodName) prog_1_method_47_code (2 : Nat) (Option.some Jvm.ClassFile.FieldType.boolean)) ∈ lw_all := lw_g (lw_at lw_m4 180 rfl) rfl
theorem q996 : (Jvm.Cond.instanceMethod ({ cls := "WheelTables", name := "turnsAt", desc := "(JI)I" } : Jvm.MethodName)) ∈ lw_all := lw_g (lw_at lw_m4 182 rfl) rfl
theorem q997 : (Jvm.Cond.selects "WheelTables" ({ cls := "WheelTables", name := "turnsAt", desc := "(JI)I" } : Jvm.MethodName) ({ cls := "WheelTables", name := "turnsAt", desc := "(JI)I" } : Jvm.MethodName)) ∈ lw_all := lw_g (lw_at lw_m4 183 rfl) rfl
theorem q998 : (Jvm.Cond.code ({ cls := "WheelTables", name := "turnsAt", desc := "(JI)I" } : Jvm.MethodName) prog_1_method_49_code (5 : Nat) (Option.some Jvm.ClassFile.FieldType.int)) ∈ lw_all := lw_g (lw_at lw_m4 184 rfl) rfl
theorem q1000 : (Jvm.Cond.instanceMethod ({ cls := "WheelTables", name := "errata", desc := "(IIII)I" } : Jvm.MethodName)) ∈ lw_all := lw_g (lw_at lw_m4 186 rfl) rfl
theorem q1001 : (Jvm.Cond.selects "WheelTables" ({ cls := "WheelTables", name := "errata", desc := "(IIII)I" } : Jvm.MethodName) ({ cls := "WheelTables", name := "errata", desc := "(IIII)I" } : Jvm.MethodName)) ∈ lw_all := lw_g (lw_at lw_m4 187 rfl) rfl
theorem q1002 : (Jvm.Cond.code ({ cls := "WheelTables", name := "errata", desc := "(IIII)I" } : Jvm.MethodName) prog_1_method_59_code (7 : Nat) (Option.some Jvm.ClassFile.FieldType.int)) ∈ lw_all := lw_g (lw_at lw_m4 188 rfl) rfl
theorem q1003 : (Jvm.Cond.constantLong "WheelTables" (440 : Nat) (99999999 : Int64)) ∈ lw_all := lw_g (lw_at lw_m4 189 rfl) rfl
theorem q1004 : (Jvm.Cond.methodLink "WheelTables" (424 : Nat) ({ cls := "WheelTables", name := "areAll", desc := "(II)Z" } : Jvm.MethodName)) ∈ lw_all := lw_g (lw_at lw_m4 190 rfl) rfl
theorem q1005 : (Jvm.Cond.privateMethod ({ cls := "WheelTables", name := "areAll", desc := "(II)Z" } : Jvm.MethodName)) ∈ lw_tbl := lw_at lw_m4 191 rfl
theorem q1006 : (Jvm.Cond.instanceMethod ({ cls := "WheelTables", name := "areAll", desc := "(II)Z" } : Jvm.MethodName)) ∈ lw_all := lw_g (lw_at lw_m4 192 rfl) rfl
theorem q1007 : (Jvm.Cond.code ({ cls := "WheelTables", name := "areAll", desc := "(II)Z" } : Jvm.MethodName) prog_1_method_52_code (5 : Nat) (Option.some Jvm.ClassFile.FieldType.boolean)) ∈ lw_all := lw_g (lw_at lw_m4 193 rfl) rfl
theorem q1008 : (Jvm.Cond.methodLink "WheelTables" (418 : Nat) ({ cls := "WheelTables", name := "isSmoothAt", desc := "(I)Z" } : Jvm.MethodName)) ∈ lw_all := lw_g (lw_at lw_m4 194 rfl) rfl
theorem q1009 : (Jvm.Cond.privateMethod ({ cls := "WheelTables", name := "isSmoothAt", desc := "(I)Z" } : Jvm.MethodName)) ∈ lw_tbl := lw_at lw_m4 195 rfl
theorem q1010 : (Jvm.Cond.instanceMethod ({ cls := "WheelTables", name := "isSmoothAt", desc := "(I)Z" } : Jvm.MethodName)) ∈ lw_all := lw_g (lw_at lw_m4 196 rfl) rfl
theorem q1011 : (Jvm.Cond.code ({ cls := "WheelTables", name := "isSmoothAt", desc := "(I)Z" } : Jvm.MethodName) prog_1_method_50_code (7 : Nat) (Option.some Jvm.ClassFile.FieldType.boolean)) ∈ lw_all := lw_g (lw_at lw_m4 197 rfl) rfl
theorem q1012 : (Jvm.Cond.methodLink "WheelTables" (434 : Nat) ({ cls := "WheelTables", name := "found", desc := "(IIII)V" } : Jvm.MethodName)) ∈ lw_all := lw_g (lw_at lw_m4 198 rfl) rfl
theorem q1013 : (Jvm.Cond.privateMethod ({ cls := "WheelTables", name := "found", desc := "(IIII)V" } : Jvm.MethodName)) ∈ lw_tbl := lw_at lw_m4 199 rfl
theorem q1014 : (Jvm.Cond.instanceMethod ({ cls := "WheelTables", name := "found", desc := "(IIII)V" } : Jvm.MethodName)) ∈ lw_all := lw_g (lw_at lw_m4 200 rfl) rfl
theorem q1015 : (Jvm.Cond.code ({ cls := "WheelTables", name := "found", desc := "(IIII)V" } : Jvm.MethodName) prog_1_method_55_code (5 : Nat) (Option.none : Option Jvm.ClassFile.FieldType)) ∈ lw_all := lw_g (lw_at lw_m4 201 rfl) rfl
theorem q1016 : (Jvm.Cond.methodLink "WheelTables" (442 : Nat) ({ cls := "WheelTables", name := "oneRight", desc := "()Z" } : Jvm.MethodName)) ∈ lw_all := lw_g (lw_at lw_m4 202 rfl) rfl
theorem q1017 : (Jvm.Cond.privateMethod ({ cls := "WheelTables", name := "oneRight", desc := "()Z" } : Jvm.MethodName)) ∈ lw_tbl := lw_at lw_m4 203 rfl
theorem q1018 : (Jvm.Cond.instanceMethod ({ cls := "WheelTables", name := "oneRight", desc := "()Z" } : Jvm.MethodName)) ∈ lw_all := lw_g (lw_at lw_m4 204 rfl) rfl
theorem q1019 : (Jvm.Cond.code ({ cls := "WheelTables", name := "oneRight", desc := "()Z" } : Jvm.MethodName) prog_1_method_56_code (4 : Nat) (Option.some Jvm.ClassFile.FieldType.boolean)) ∈ lw_all := lw_g (lw_at lw_m4 205 rfl) rfl
theorem q1020 : (Jvm.Cond.methodLink "WheelTables" (428 : Nat) ({ cls := "WheelTables", name := "corrects", desc := "(II)V" } : Jvm.MethodName)) ∈ lw_all := lw_g (lw_at lw_m4 206 rfl) rfl
theorem q1021 : (Jvm.Cond.privateMethod ({ cls := "WheelTables", name := "corrects", desc := "(II)V" } : Jvm.MethodName)) ∈ lw_tbl := lw_at lw_m4 207 rfl
theorem q1022 : (Jvm.Cond.instanceMethod ({ cls := "WheelTables", name := "corrects", desc := "(II)V" } : Jvm.MethodName)) ∈ lw_all := lw_g (lw_at lw_m4 208 rfl) rfl
theorem q1023 : (Jvm.Cond.code ({ cls := "WheelTables", name := "corrects", desc := "(II)V" } : Jvm.MethodName) prog_1_method_54_code (7 : Nat) (Option.none : Option Jvm.ClassFile.FieldType)) ∈ lw_all := lw_g (lw_at lw_m4 209 rfl) rfl
theorem q1024 : (Jvm.Cond.methodLink "WheelTables" (421 : Nat) ({ cls := "WheelTables", name := "adds", desc := "(II)V" } : Jvm.MethodName)) ∈ lw_all := lw_g (lw_at lw_m4 210 rfl) rfl
theorem q1025 : (Jvm.Cond.privateMethod ({ cls := "WheelTables", name := "adds", desc := "(II)V" } : Jvm.MethodName)) ∈ lw_tbl := lw_at lw_m4 211 rfl
theorem q1026 : (Jvm.Cond.instanceMethod ({ cls := "WheelTables", name := "adds", desc := "(II)V" } : Jvm.MethodName)) ∈ lw_all := lw_g (lw_at lw_m4 212 rfl) rfl
theorem q1027 : (Jvm.Cond.code ({ cls := "WheelTables", name := "adds", desc := "(II)V" } : Jvm.MethodName) prog_1_method_53_code (6 : Nat) (Option.none : Option Jvm.ClassFile.FieldType)) ∈ lw_all := lw_g (lw_at lw_m4 213 rfl) rfl
theorem q1028 : (Jvm.Cond.methodLink "WheelTables" (431 : Nat) ({ cls := "WheelTables", name := "isSmoothBy", desc := "(I)Z" } : Jvm.MethodName)) ∈ lw_all := lw_g (lw_at lw_m4 214 rfl) rfl
theorem q1029 : (Jvm.Cond.privateMethod ({ cls := "WheelTables", name := "isSmoothBy", desc := "(I)Z" } : Jvm.MethodName)) ∈ lw_tbl := lw_at lw_m4 215 rfl
theorem q1030 : (Jvm.Cond.instanceMethod ({ cls := "WheelTables", name := "isSmoothBy", desc := "(I)Z" } : Jvm.MethodName)) ∈ lw_all := lw_g (lw_at lw_m4 216 rfl) rfl
theorem q1031 : (Jvm.Cond.code ({ cls := "WheelTables", name := "isSmoothBy", desc := "(I)Z" } : Jvm.MethodName) prog_1_method_51_code (3 : Nat) (Option.some Jvm.ClassFile.FieldType.boolean)) ∈ lw_all := lw_g (lw_at lw_m4 217 rfl) rfl
theorem q1032 : (Jvm.Cond.methodLink "WheelTables" (412 : Nat) ({ cls := "java/lang/Math", name := "max", desc := "(II)I" } : Jvm.MethodName)) ∈ lw_all := lw_g (lw_at lw_m4 218 rfl) rfl
theorem q1035 : (Jvm.Cond.methodLink "WheelTables" (446 : Nat) ({ cls := "WheelTables", name := "twoRight", desc := "()Z" } : Jvm.MethodName)) ∈ lw_all := lw_g (lw_at lw_m4 221 rfl) rfl
theorem q1036 : (Jvm.Cond.privateMethod ({ cls := "WheelTables", name := "twoRight", desc := "()Z" } : Jvm.MethodName)) ∈ lw_tbl := lw_at lw_m4 222 rfl
theorem q1037 : (Jvm.Cond.instanceMethod ({ cls := "WheelTables", name := "twoRight", desc := "()Z" } : Jvm.MethodName)) ∈ lw_all := lw_g (lw_at lw_m4 223 rfl) rfl
theorem q1038 : (Jvm.Cond.code ({ cls := "WheelTables", name := "twoRight", desc := "()Z" } : Jvm.MethodName) prog_1_method_57_code (3 : Nat) (Option.some Jvm.ClassFile.FieldType.boolean)) ∈ lw_all := lw_g (lw_at lw_m4 224 rfl) rfl
theorem q1039 : (Jvm.Cond.methodLink "WheelTables" (437 : Nat) ({ cls := "WheelTables", name := "pairRight", desc := "(II)Z" } : Jvm.MethodName)) ∈ lw_all := lw_g (lw_at lw_m4 225 rfl) rfl
theorem q1040 : (Jvm.Cond.privateMethod ({ cls := "WheelTables", name := "pairRight", desc := "(II)Z" } : Jvm.MethodName)) ∈ lw_tbl := lw_at lw_m4 226 rfl
theorem q1041 : (Jvm.Cond.instanceMethod ({ cls := "WheelTables", name := "pairRight", desc := "(II)Z" } : Jvm.MethodName)) ∈ lw_all := lw_g (lw_at lw_m4 227 rfl) rfl
theorem q1042 : (Jvm.Cond.code ({ cls := "WheelTables", name := "pairRight", desc := "(II)Z" } : Jvm.MethodName) prog_1_method_58_code (7 : Nat) (Option.some Jvm.ClassFile.FieldType.boolean)) ∈ lw_all := lw_g (lw_at lw_m4 228 rfl) rfl
theorem q1044 : (Jvm.Cond.instanceMethod ({ cls := "WheelTables", name := "right", desc := "(II)I" } : Jvm.MethodName)) ∈ lw_all := lw_g (lw_at lw_m4 230 rfl) rfl
theorem q1045 : (Jvm.Cond.selects "WheelTables" ({ cls := "WheelTables", name := "right", desc := "(II)I" } : Jvm.MethodName) ({ cls := "WheelTables", name := "right", desc := "(II)I" } : Jvm.MethodName)) ∈ lw_all := lw_g (lw_at lw_m4 231 rfl) rfl
theorem q1046 : (Jvm.Cond.code ({ cls := "WheelTables", name := "right", desc := "(II)I" } : Jvm.MethodName) prog_1_method_60_code (3 : Nat) (Option.some Jvm.ClassFile.FieldType.int)) ∈ lw_all := lw_g (lw_at lw_m4 232 rfl) rfl
theorem q1048 : (Jvm.Cond.instanceMethod ({ cls := "WheelTables", name := "cast", desc := "(III)Z" } : Jvm.MethodName)) ∈ lw_all := lw_g (lw_at lw_m4 234 rfl) rfl
theorem q1049 : (Jvm.Cond.selects "WheelTables" ({ cls := "WheelTables", name := "cast", desc := "(III)Z" } : Jvm.MethodName) ({ cls := "WheelTables", name := "cast", desc := "(III)Z" } : Jvm.MethodName)) ∈ lw_all := lw_g (lw_at lw_m4 235 rfl) rfl
theorem q1050 : (Jvm.Cond.code ({ cls := "WheelTables", name := "cast", desc := "(III)Z" } : Jvm.MethodName) prog_1_method_64_code (4 : Nat) (Option.some Jvm.ClassFile.FieldType.boolean)) ∈ lw_all := lw_g (lw_at lw_m4 236 rfl) rfl
theorem q1051 : (Jvm.Cond.methodLink "WheelTables" (451 : Nat) ({ cls := "WheelTables", name := "isRow", desc := "(I)Z" } : Jvm.MethodName)) ∈ lw_all := lw_g (lw_at lw_m4 237 rfl) rfl
theorem q1052 : (Jvm.Cond.static ({ cls := "WheelTables", name := "isRow", desc := "(I)Z" } : Jvm.MethodName)) ∈ lw_all := lw_g (lw_at lw_m4 238 rfl) rfl
theorem q1053 : (Jvm.Cond.code ({ cls := "WheelTables", name := "isRow", desc := "(I)Z" } : Jvm.MethodName) prog_1_method_62_code (1 : Nat) (Option.some Jvm.ClassFile.FieldType.boolean)) ∈ lw_all := lw_g (lw_at lw_m4 239 rfl) rfl
theorem q1054 : (Jvm.Cond.methodLink "WheelTables" (454 : Nat) ({ cls := "WheelTables", name := "isDay", desc := "(I)Z" } : Jvm.MethodName)) ∈ lw_all := lw_g (lw_at lw_m5 0 rfl) rfl
theorem q1055 : (Jvm.Cond.static ({ cls := "WheelTables", name := "isDay", desc := "(I)Z" } : Jvm.MethodName)) ∈ lw_all := lw_g (lw_at lw_m5 1 rfl) rfl
theorem q1056 : (Jvm.Cond.code ({ cls := "WheelTables", name := "isDay", desc := "(I)Z" } : Jvm.MethodName) prog_1_method_61_code (1 : Nat) (Option.some Jvm.ClassFile.FieldType.boolean)) ∈ lw_all := lw_g (lw_at lw_m5 2 rfl) rfl
theorem q1057 : (Jvm.Cond.methodLink "WheelTables" (457 : Nat) ({ cls := "WheelTables", name := "isNumber", desc := "(I)Z" } : Jvm.MethodName)) ∈ lw_all := lw_g (lw_at lw_m5 3 rfl) rfl
theorem q1058 : (Jvm.Cond.static ({ cls := "WheelTables", name := "isNumber", desc := "(I)Z" } : Jvm.MethodName)) ∈ lw_all := lw_g (lw_at lw_m5 4 rfl) rfl
theorem q1059 : (Jvm.Cond.code ({ cls := "WheelTables", name := "isNumber", desc := "(I)Z" } : Jvm.MethodName) prog_1_method_63_code (1 : Nat) (Option.some Jvm.ClassFile.FieldType.boolean)) ∈ lw_all := lw_g (lw_at lw_m5 5 rfl) rfl
theorem q1060 : (Jvm.Cond.constant "WheelTables" (449 : Nat) (-1000000000 : Int32)) ∈ lw_all := lw_g (lw_at lw_m5 6 rfl) rfl
theorem q1061 : (Jvm.Cond.constant "WheelTables" (450 : Nat) (1000000000 : Int32)) ∈ lw_all := lw_g (lw_at lw_m5 7 rfl) rfl
theorem q1063 : (Jvm.Cond.instanceMethod ({ cls := "WheelTables", name := "print", desc := "(II)I" } : Jvm.MethodName)) ∈ lw_all := lw_g (lw_at lw_m5 9 rfl) rfl
theorem q1064 : (Jvm.Cond.selects "WheelTables" ({ cls := "WheelTables", name := "print", desc := "(II)I" } : Jvm.MethodName) ({ cls := "WheelTables", name := "print", desc := "(II)I" } : Jvm.MethodName)) ∈ lw_all := lw_g (lw_at lw_m5 10 rfl) rfl
theorem q1065 : (Jvm.Cond.code ({ cls := "WheelTables", name := "print", desc := "(II)I" } : Jvm.MethodName) prog_1_method_66_code (4 : Nat) (Option.some Jvm.ClassFile.FieldType.int)) ∈ lw_all := lw_g (lw_at lw_m5 11 rfl) rfl
theorem q1066 : (Jvm.Cond.methodLink "WheelTables" (469 : Nat) ({ cls := "WheelTables", name := "copies", desc := "()I" } : Jvm.MethodName)) ∈ lw_all := lw_g (lw_at lw_m5 12 rfl) rfl
theorem q1067 : (Jvm.Cond.privateMethod ({ cls := "WheelTables", name := "copies", desc := "()I" } : Jvm.MethodName)) ∈ lw_tbl := lw_at lw_m5 13 rfl
theorem q1068 : (Jvm.Cond.instanceMethod ({ cls := "WheelTables", name := "copies", desc := "()I" } : Jvm.MethodName)) ∈ lw_all := lw_g (lw_at lw_m5 14 rfl) rfl
theorem q1069 : (Jvm.Cond.code ({ cls := "WheelTables", name := "copies", desc := "()I" } : Jvm.MethodName) prog_1_method_65_code (1 : Nat) (Option.some Jvm.ClassFile.FieldType.int)) ∈ lw_all := lw_g (lw_at lw_m5 15 rfl) rfl
theorem q1071 : (Jvm.Cond.instanceMethod ({ cls := "WheelTables", name := "tell", desc := "(III)Z" } : Jvm.MethodName)) ∈ lw_all := lw_g (lw_at lw_m5 17 rfl) rfl
theorem q1072 : (Jvm.Cond.selects "WheelTables" ({ cls := "WheelTables", name := "tell", desc := "(III)Z" } : Jvm.MethodName) ({ cls := "WheelTables", name := "tell", desc := "(III)Z" } : Jvm.MethodName)) ∈ lw_all := lw_g (lw_at lw_m5 18 rfl) rfl
theorem q1073 : (Jvm.Cond.code ({ cls := "WheelTables", name := "tell", desc := "(III)Z" } : Jvm.MethodName) prog_1_method_67_code (4 : Nat) (Option.some Jvm.ClassFile.FieldType.boolean)) ∈ lw_all := lw_g (lw_at lw_m5 19 rfl) rfl
theorem q1075 : (Jvm.Cond.instanceMethod ({ cls := "WheelTables", name := "says", desc := "(II)I" } : Jvm.MethodName)) ∈ lw_all := lw_g (lw_at lw_m5 21 rfl) rfl
theorem q1076 : (Jvm.Cond.selects "WheelTables" ({ cls := "WheelTables", name := "says", desc := "(II)I" } : Jvm.MethodName) ({ cls := "WheelTables", name := "says", desc := "(II)I" } : Jvm.MethodName)) ∈ lw_all := lw_g (lw_at lw_m5 22 rfl) rfl
theorem q1077 : (Jvm.Cond.code ({ cls := "WheelTables", name := "says", desc := "(II)I" } : Jvm.MethodName) prog_1_method_71_code (3 : Nat) (Option.some Jvm.ClassFile.FieldType.int)) ∈ lw_all := lw_g (lw_at lw_m5 23 rfl) rfl
theorem q1078 : (Jvm.Cond.methodLink "WheelTables" (475 : Nat) ({ cls := "WheelTables", name := "isCopy", desc := "(I)Z" } : Jvm.MethodName)) ∈ lw_all := lw_g (lw_at lw_m5 24 rfl) rfl
theorem q1079 : (Jvm.Cond.privateMethod ({ cls := "WheelTables", name := "isCopy", desc := "(I)Z" } : Jvm.MethodName)) ∈ lw_tbl := lw_at lw_m5 25 rfl
theorem q1080 : (Jvm.Cond.instanceMethod ({ cls := "WheelTables", name := "isCopy", desc := "(I)Z" } : Jvm.MethodName)) ∈ lw_all := lw_g (lw_at lw_m5 26 rfl) rfl
theorem q1081 : (Jvm.Cond.code ({ cls := "WheelTables", name := "isCopy", desc := "(I)Z" } : Jvm.MethodName) prog_1_method_70_code (2 : Nat) (Option.some Jvm.ClassFile.FieldType.boolean)) ∈ lw_all := lw_g (lw_at lw_m5 27 rfl) rfl
theorem q1082 : (Jvm.Cond.methodLink "WheelTables" (478 : Nat) ({ cls := "WheelTables", name := "printingOf", desc := "(I)I" } : Jvm.MethodName)) ∈ lw_all := lw_g (lw_at lw_m5 28 rfl) rfl
theorem q1083 : (Jvm.Cond.privateMethod ({ cls := "WheelTables", name := "printingOf", desc := "(I)I" } : Jvm.MethodName)) ∈ lw_tbl := lw_at lw_m5 29 rfl
theorem q1084 : (Jvm.Cond.instanceMethod ({ cls := "WheelTables", name := "printingOf", desc := "(I)I" } : Jvm.MethodName)) ∈ lw_all := lw_g (lw_at lw_m5 30 rfl) rfl
theorem q1085 : (Jvm.Cond.code ({ cls := "WheelTables", name := "printingOf", desc := "(I)I" } : Jvm.MethodName) prog_1_method_69_code (3 : Nat) (Option.some Jvm.ClassFile.FieldType.int)) ∈ lw_all := lw_g (lw_at lw_m5 31 rfl) rfl
theorem q1086 : (Jvm.Cond.methodLink "WheelTables" (481 : Nat) ({ cls := "WheelTables", name := "saidBy", desc := "(II)I" } : Jvm.MethodName)) ∈ lw_all := lw_g (lw_at lw_m5 32 rfl) rfl
theorem q1087 : (Jvm.Cond.privateMethod ({ cls := "WheelTables", name := "saidBy", desc := "(II)I" } : Jvm.MethodName)) ∈ lw_tbl := lw_at lw_m5 33 rfl
theorem q1088 : (Jvm.Cond.instanceMethod ({ cls := "WheelTables", name := "saidBy", desc := "(II)I" } : Jvm.MethodName)) ∈ lw_all := lw_g (lw_at lw_m5 34 rfl) rfl
theorem q1089 : (Jvm.Cond.code ({ cls := "WheelTables", name := "saidBy", desc := "(II)I" } : Jvm.MethodName) prog_1_method_68_code (5 : Nat) (Option.some Jvm.ClassFile.FieldType.int)) ∈ lw_all := lw_g (lw_at lw_m5 35 rfl) rfl
theorem q1091 : (Jvm.Cond.instanceMethod ({ cls := "WheelTables", name := "wrong", desc := "(II)I" } : Jvm.MethodName)) ∈ lw_all := lw_g (lw_at lw_m5 37 rfl) rfl
theorem q1092 : (Jvm.Cond.selects "WheelTables" ({ cls := "WheelTables", name := "wrong", desc := "(II)I" } : Jvm.MethodName) ({ cls := "WheelTables", name := "wrong", desc := "(II)I" } : Jvm.MethodName)) ∈ lw_all := lw_g (lw_at lw_m5 38 rfl) rfl
theorem q1093 : (Jvm.Cond.code ({ cls := "WheelTables", name := "wrong", desc := "(II)I" } : Jvm.MethodName) prog_1_method_73_code (3 : Nat) (Option.some Jvm.ClassFile.FieldType.int)) ∈ lw_all := lw_g (lw_at lw_m5 39 rfl) rfl
theorem q1094 : (Jvm.Cond.methodLink "WheelTables" (484 : Nat) ({ cls := "WheelTables", name := "wrongIn", desc := "(II)I" } : Jvm.MethodName)) ∈ lw_all := lw_g (lw_at lw_m5 40 rfl) rfl
theorem q1095 : (Jvm.Cond.privateMethod ({ cls := "WheelTables", name := "wrongIn", desc := "(II)I" } : Jvm.MethodName)) ∈ lw_tbl := lw_at lw_m5 41 rfl
theorem q1096 : (Jvm.Cond.instanceMethod ({ cls := "WheelTables", name := "wrongIn", desc := "(II)I" } : Jvm.MethodName)) ∈ lw_all := lw_g (lw_at lw_m5 42 rfl) rfl
theorem q1097 : (Jvm.Cond.code ({ cls := "WheelTables", name := "wrongIn", desc := "(II)I" } : Jvm.MethodName) prog_1_method_72_code (7 : Nat) (Option.some Jvm.ClassFile.FieldType.int)) ∈ lw_all := lw_g (lw_at lw_m5 43 rfl) rfl
theorem q1099 : (Jvm.Cond.instanceMethod ({ cls := "WheelTables", name := "bad", desc := "(I)I" } : Jvm.MethodName)) ∈ lw_all := lw_g (lw_at lw_m5 45 rfl) rfl
theorem q1100 : (Jvm.Cond.selects "WheelTables" ({ cls := "WheelTables", name := "bad", desc := "(I)I" } : Jvm.MethodName) ({ cls := "WheelTables", name := "bad", desc := "(I)I" } : Jvm.MethodName)) ∈ lw_all := lw_g (lw_at lw_m5 46 rfl) rfl
theorem q1101 : (Jvm.Cond.code ({ cls := "WheelTables", name := "bad", desc := "(I)I" } : Jvm.MethodName) prog_1_method_74_code (4 : Nat) (Option.some Jvm.ClassFile.FieldType.int)) ∈ lw_all := lw_g (lw_at lw_m5 47 rfl) rfl
theorem q1103 : (Jvm.Cond.instanceMethod ({ cls := "WheelTables", name := "job", desc := "(III)I" } : Jvm.MethodName)) ∈ lw_all := lw_g (lw_at lw_m5 49 rfl) rfl
theorem q1104 : (Jvm.Cond.selects "WheelTables" ({ cls := "WheelTables", name := "job", desc := "(III)I" } : Jvm.MethodName) ({ cls := "WheelTables", name := "job", desc := "(III)I" } : Jvm.MethodName)) ∈ lw_all := lw_g (lw_at lw_m5 50 rfl) rfl
theorem q1105 : (Jvm.Cond.code ({ cls := "WheelTables", name := "job", desc := "(III)I" } : Jvm.MethodName) prog_1_method_75_code (4 : Nat) (Option.some Jvm.ClassFile.FieldType.int)) ∈ lw_all := lw_g (lw_at lw_m5 51 rfl) rfl
theorem q1107 : (Jvm.Cond.instanceMethod ({ cls := "WheelTables", name := "part", desc := "()I" } : Jvm.MethodName)) ∈ lw_all := lw_g (lw_at lw_m5 53 rfl) rfl
theorem q1108 : (Jvm.Cond.selects "WheelTables" ({ cls := "WheelTables", name := "part", desc := "()I" } : Jvm.MethodName) ({ cls := "WheelTables", name := "part", desc := "()I" } : Jvm.MethodName)) ∈ lw_all := lw_g (lw_at lw_m5 54 rfl) rfl
theorem q1109 : (Jvm.Cond.code ({ cls := "WheelTables", name := "part", desc := "()I" } : Jvm.MethodName) prog_1_method_78_code (1 : Nat) (Option.some Jvm.ClassFile.FieldType.int)) ∈ lw_all := lw_g (lw_at lw_m5 55 rfl) rfl
theorem q1110 : (Jvm.Cond.methodLink "WheelTables" (496 : Nat) ({ cls := "WheelTables", name := "hasParts", desc := "()Z" } : Jvm.MethodName)) ∈ lw_all := lw_g (lw_at lw_m5 56 rfl) rfl
theorem q1111 : (Jvm.Cond.privateMethod ({ cls := "WheelTables", name := "hasParts", desc := "()Z" } : Jvm.MethodName)) ∈ lw_tbl := lw_at lw_m5 57 rfl
theorem q1112 : (Jvm.Cond.instanceMethod ({ cls := "WheelTables", name := "hasParts", desc := "()Z" } : Jvm.MethodName)) ∈ lw_all := lw_g (lw_at lw_m5 58 rfl) rfl
theorem q1113 : (Jvm.Cond.code ({ cls := "WheelTables", name := "hasParts", desc := "()Z" } : Jvm.MethodName) prog_1_method_77_code (2 : Nat) (Option.some Jvm.ClassFile.FieldType.boolean)) ∈ lw_all := lw_g (lw_at lw_m5 59 rfl) rfl
theorem q1114 : (Jvm.Cond.methodLink "WheelTables" (493 : Nat) ({ cls := "WheelTables", name := "parts", desc := "(II)V" } : Jvm.MethodName)) ∈ lw_all := lw_g (lw_at lw_m5 60 rfl) rfl
theorem q1115 : (Jvm.Cond.privateMethod ({ cls := "WheelTables", name := "parts", desc := "(II)V" } : Jvm.MethodName)) ∈ lw_tbl := lw_at lw_m5 61 rfl
theorem q1116 : (Jvm.Cond.instanceMethod ({ cls := "WheelTables", name := "parts", desc := "(II)V" } : Jvm.MethodName)) ∈ lw_all := lw_g (lw_at lw_m5 62 rfl) rfl
theorem q1117 : (Jvm.Cond.code ({ cls := "WheelTables", name := "parts", desc := "(II)V" } : Jvm.MethodName) prog_1_method_76_code (4 : Nat) (Option.none : Option Jvm.ClassFile.FieldType)) ∈ lw_all := lw_g (lw_at lw_m5 63 rfl) rfl
theorem q1119 : (Jvm.Cond.instanceMethod ({ cls := "WheelTables", name := "partOf", desc := "(I)I" } : Jvm.MethodName)) ∈ lw_all := lw_g (lw_at lw_m5 65 rfl) rfl
theorem q1120 : (Jvm.Cond.selects "WheelTables" ({ cls := "WheelTables", name := "partOf", desc := "(I)I" } : Jvm.MethodName) ({ cls := "WheelTables", name := "partOf", desc := "(I)I" } : Jvm.MethodName)) ∈ lw_all := lw_g (lw_at lw_m5 66 rfl) rfl
theorem q1121 : (Jvm.Cond.code ({ cls := "WheelTables", name := "partOf", desc := "(I)I" } : Jvm.MethodName) prog_1_method_79_code (2 : Nat) (Option.some Jvm.ClassFile.FieldType.int)) ∈ lw_all := lw_g (lw_at lw_m5 67 rfl) rfl
theorem in_X0 : ∀ w ∈ wsX00, w ∈ lw_all := lw_in wsX00 [328, 330, 332, 334, 336, 338, 340, 342, 344, 346, 348, 350, 352, 354, 356, 358, 360, 362, 364, 366, 368, 370, 372, 374, 376, 378, 380, 382, 384, 386, 388, 390, 392, 394, 396, 398, 400, 402, 404, 406, 408, 410, 412, 414, 416, 418, 420, 422, 424, 426, 428, 430, 432, 434, 436, 438, 440] (by decide +kernel) (by decide +kernel)
